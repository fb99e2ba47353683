section
-- ===== PART A: goes FIRST, ahead of the names: the tables' words, and 'selects' of the private methods out of them =====
/-- a private method of a class that the tables say can be made, by its rows of tables_1 -/
def lw_okq (q : MethodName × Nat) : Prop := (q.1.cls ≠ "java/lang/invoke/MethodHandle" ∧ q.1.cls ≠ "java/lang/invoke/VarHandle") ∧ Cond.instantiable q.1.cls q.2 ∈ tables_1 ∧ Cond.privateMethod q.1 ∈ tables_1 ∧ Cond.instanceMethod q.1 ∈ tables_1
set_option maxRecDepth 100000
theorem lw_t1 {w : Cond} (h : w ∈ tables_1_1) : w ∈ tables_1 := List.mem_append_left _ h
theorem lw_t2 {w : Cond} (h : w ∈ tables_1_2) : w ∈ tables_1 := List.mem_append_right _ h
theorem lw_p0 : lw_okq (⟨"NodeTableFiles", "checkpoint", "()V"⟩, 18) := ⟨⟨by decide +kernel, by decide +kernel⟩, lw_t1 (List.mem_of_getElem? (i := 4) rfl), lw_t1 (List.mem_of_getElem? (i := 12) rfl), lw_t1 (List.mem_of_getElem? (i := 13) rfl)⟩
theorem lw_p1 : lw_okq (⟨"NodeTableFiles", "writePack", "()V"⟩, 18) := ⟨⟨by decide +kernel, by decide +kernel⟩, lw_t1 (List.mem_of_getElem? (i := 4) rfl), lw_t1 (List.mem_of_getElem? (i := 16) rfl), lw_t1 (List.mem_of_getElem? (i := 17) rfl)⟩
theorem lw_p2 : lw_okq (⟨"NodeTableFiles", "fresh", "()I"⟩, 18) := ⟨⟨by decide +kernel, by decide +kernel⟩, lw_t1 (List.mem_of_getElem? (i := 4) rfl), lw_t1 (List.mem_of_getElem? (i := 20) rfl), lw_t1 (List.mem_of_getElem? (i := 21) rfl)⟩
theorem lw_p3 : lw_okq (⟨"NodeTableFiles", "survey", "()V"⟩, 18) := ⟨⟨by decide +kernel, by decide +kernel⟩, lw_t1 (List.mem_of_getElem? (i := 4) rfl), lw_t1 (List.mem_of_getElem? (i := 24) rfl), lw_t1 (List.mem_of_getElem? (i := 25) rfl)⟩
theorem lw_p4 : lw_okq (⟨"NodeTableFiles", "need", "(I)V"⟩, 18) := ⟨⟨by decide +kernel, by decide +kernel⟩, lw_t1 (List.mem_of_getElem? (i := 4) rfl), lw_t1 (List.mem_of_getElem? (i := 28) rfl), lw_t1 (List.mem_of_getElem? (i := 29) rfl)⟩
theorem lw_p5 : lw_okq (⟨"NodeTableFiles", "freeIn", "(I)I"⟩, 18) := ⟨⟨by decide +kernel, by decide +kernel⟩, lw_t1 (List.mem_of_getElem? (i := 4) rfl), lw_t1 (List.mem_of_getElem? (i := 32) rfl), lw_t1 (List.mem_of_getElem? (i := 33) rfl)⟩
theorem lw_p6 : lw_okq (⟨"NodeTableFiles", "bad", "(I)Z"⟩, 18) := ⟨⟨by decide +kernel, by decide +kernel⟩, lw_t1 (List.mem_of_getElem? (i := 4) rfl), lw_t1 (List.mem_of_getElem? (i := 97) rfl), lw_t1 (List.mem_of_getElem? (i := 98) rfl)⟩
theorem lw_p7 : lw_okq (⟨"NodeTableFiles", "writeNode", "(IIIII)V"⟩, 18) := ⟨⟨by decide +kernel, by decide +kernel⟩, lw_t1 (List.mem_of_getElem? (i := 4) rfl), lw_t1 (List.mem_of_getElem? (i := 101) rfl), lw_t1 (List.mem_of_getElem? (i := 102) rfl)⟩
theorem lw_p8 : lw_okq (⟨"NodeTableFiles", "count", "()I"⟩, 18) := ⟨⟨by decide +kernel, by decide +kernel⟩, lw_t1 (List.mem_of_getElem? (i := 4) rfl), lw_t1 (List.mem_of_getElem? (i := 129) rfl), lw_t1 (List.mem_of_getElem? (i := 130) rfl)⟩
theorem lw_p9 : lw_okq (⟨"NodeTableFiles", "mount", "()V"⟩, 18) := ⟨⟨by decide +kernel, by decide +kernel⟩, lw_t1 (List.mem_of_getElem? (i := 4) rfl), lw_t1 (List.mem_of_getElem? (i := 137) rfl), lw_t1 (List.mem_of_getElem? (i := 138) rfl)⟩
theorem lw_p10 : lw_okq (⟨"NodeTableFiles", "differs", "(II)Z"⟩, 18) := ⟨⟨by decide +kernel, by decide +kernel⟩, lw_t1 (List.mem_of_getElem? (i := 4) rfl), lw_t1 (List.mem_of_getElem? (i := 157) rfl), lw_t1 (List.mem_of_getElem? (i := 158) rfl)⟩
theorem lw_p11 : lw_okq (⟨"NodeTableFilesModel", "isFile", "(I)Z"⟩, 4) := ⟨⟨by decide +kernel, by decide +kernel⟩, lw_t1 (List.mem_of_getElem? (i := 165) rfl), lw_t1 (List.mem_of_getElem? (i := 188) rfl), lw_t1 (List.mem_of_getElem? (i := 189) rfl)⟩
theorem lw_p12 : lw_okq (⟨"NodeTableFilesModel", "test", "(I)I"⟩, 4) := ⟨⟨by decide +kernel, by decide +kernel⟩, lw_t1 (List.mem_of_getElem? (i := 165) rfl), lw_t1 (List.mem_of_getElem? (i := 196) rfl), lw_t1 (List.mem_of_getElem? (i := 197) rfl)⟩
theorem lw_p13 : lw_okq (⟨"NodeTableFilesModel", "copyContent", "(II)V"⟩, 4) := ⟨⟨by decide +kernel, by decide +kernel⟩, lw_t1 (List.mem_of_getElem? (i := 165) rfl), lw_t1 (List.mem_of_getElem? (i := 212) rfl), lw_t1 (List.mem_of_getElem? (i := 213) rfl)⟩
theorem lw_p14 : lw_okq (⟨"NodeTableFilesModel", "count", "()I"⟩, 4) := ⟨⟨by decide +kernel, by decide +kernel⟩, lw_t1 (List.mem_of_getElem? (i := 165) rfl), lw_t1 (List.mem_of_getElem? (i := 224) rfl), lw_t1 (List.mem_of_getElem? (i := 225) rfl)⟩
theorem lw_p15 : lw_okq (⟨"NodeTableFilesModel", "differs", "(I)Z"⟩, 4) := ⟨⟨by decide +kernel, by decide +kernel⟩, lw_t1 (List.mem_of_getElem? (i := 165) rfl), lw_t2 (List.mem_of_getElem? (i := 10) rfl), lw_t2 (List.mem_of_getElem? (i := 11) rfl)⟩
def lw_privs_1 : List (MethodName × Nat) := [(⟨"NodeTableFiles", "checkpoint", "()V"⟩, 18), (⟨"NodeTableFiles", "writePack", "()V"⟩, 18), (⟨"NodeTableFiles", "fresh", "()I"⟩, 18), (⟨"NodeTableFiles", "survey", "()V"⟩, 18), (⟨"NodeTableFiles", "need", "(I)V"⟩, 18), (⟨"NodeTableFiles", "freeIn", "(I)I"⟩, 18), (⟨"NodeTableFiles", "bad", "(I)Z"⟩, 18), (⟨"NodeTableFiles", "writeNode", "(IIIII)V"⟩, 18), (⟨"NodeTableFiles", "count", "()I"⟩, 18), (⟨"NodeTableFiles", "mount", "()V"⟩, 18), (⟨"NodeTableFiles", "differs", "(II)Z"⟩, 18), (⟨"NodeTableFilesModel", "isFile", "(I)Z"⟩, 4), (⟨"NodeTableFilesModel", "test", "(I)I"⟩, 4), (⟨"NodeTableFilesModel", "copyContent", "(II)V"⟩, 4), (⟨"NodeTableFilesModel", "count", "()I"⟩, 4), (⟨"NodeTableFilesModel", "differs", "(I)Z"⟩, 4)]
theorem lw_r1 : ∀ q ∈ lw_privs_1, lw_okq q := List.forall_mem_cons.mpr ⟨lw_p0, List.forall_mem_cons.mpr ⟨lw_p1, List.forall_mem_cons.mpr ⟨lw_p2, List.forall_mem_cons.mpr ⟨lw_p3, List.forall_mem_cons.mpr ⟨lw_p4, List.forall_mem_cons.mpr ⟨lw_p5, List.forall_mem_cons.mpr ⟨lw_p6, List.forall_mem_cons.mpr ⟨lw_p7, List.forall_mem_cons.mpr ⟨lw_p8, List.forall_mem_cons.mpr ⟨lw_p9, List.forall_mem_cons.mpr ⟨lw_p10, List.forall_mem_cons.mpr ⟨lw_p11, List.forall_mem_cons.mpr ⟨lw_p12, List.forall_mem_cons.mpr ⟨lw_p13, List.forall_mem_cons.mpr ⟨lw_p14, List.forall_mem_cons.mpr ⟨lw_p15, fun _ h => absurd h List.not_mem_nil⟩⟩⟩⟩⟩⟩⟩⟩⟩⟩⟩⟩⟩⟩⟩⟩
def lw_privs : List (MethodName × Nat) := lw_privs_1
def lw_tbl : List Cond := k2_sels lw_privs ++ tables_1
theorem lw_privs_ok : ∀ q ∈ lw_privs, lw_okq q := lw_r1
-- ===== ONE list of words for every method: the tables' words that hold all through a run =====
def lw_all : List Cond := lw_tbl.filter goodWord
/-- a word of the tables by its place: claim/WORDS.tsv -/
theorem lw_w {w : Cond} (i : Nat) (h : lw_tbl[i]? = some w) (g : goodWord w = true) : w ∈ lw_all := List.mem_filter.mpr ⟨List.mem_of_getElem? h, g⟩
theorem lw_all_tbl {w : Cond} (h : w ∈ lw_all) : w ∈ lw_tbl := (List.mem_filter.mp h).1
theorem lw_self : GoodIn lw_all lw_all := fun w h => ⟨h, good_of_word (List.mem_filter.mp h).2⟩
/-- a class's field words, by their places -/
theorem lw_in (ws : List Cond) (ps : List Nat) (hp : ws = ps.filterMap (fun i => lw_tbl[i]?)) (hg : ws.all goodWord = true) : ∀ w ∈ ws, w ∈ lw_all := by
  intro w h
  have h1 := List.all_eq_true.mp hg w h
  rw [hp] at h
  obtain ⟨i, -, hi⟩ := List.mem_filterMap.mp h
  exact lw_w i hi h1
/-- the words of a contract for the method y with code b, L locals, answer r -/
abbrev ws_ (y : MethodName) (b : ByteArray) (L : Nat) (r : Option FieldType) : List Cond := Cond.code y b L r :: lw_all
theorem lw_meth {y : MethodName} {b : ByteArray} {L : Nat} {r : Option FieldType} (h : Cond.code y b L r ∈ lw_all) : GoodIn lw_all (ws_ y b L r) := by
  intro w hw
  rcases List.mem_cons.mp hw with e | e
  · rw [e]
    exact lw_self _ h
  · exact lw_self _ e
theorem lw_app {a c : List Cond} (ha : ∀ w ∈ a, w ∈ lw_all) (hc : GoodIn lw_all c) : GoodIn lw_all (a ++ c) := by
  intro w hw
  rcases List.mem_append.mp hw with e | e
  · exact lw_self w (ha w e)
  · exact hc w e
/-- what a call through an object asks: cwV n hts (lw_V ..) -/
theorem lw_V {own : String} {idx : Nat} {C : String} {y : MethodName} {b : ByteArray} {L : Nat} {r : Option FieldType} (h1 : Cond.methodLink own idx y ∈ lw_all) (h2 : Cond.instanceMethod y ∈ lw_all) (h3 : Cond.selects C y y ∈ lw_all) (h4 : Cond.initialized C ∈ lw_all) (h5 : Cond.code y b L r ∈ lw_all) : GoodIn lw_all (wsV own idx C y (ws_ y b L r)) := by
  refine lw_app ?_ (lw_meth h5)
  intro w hw
  simp only [List.mem_cons, List.not_mem_nil, or_false] at hw
  rcases hw with e | e | e | e
  · rw [e]; exact h1
  · rw [e]; exact h2
  · rw [e]; exact h3
  · rw [e]; exact h4
/-- what a static call asks: va_cwS n hts (lw_S ..) -/
theorem lw_S {own : String} {idx : Nat} {y : MethodName} {b : ByteArray} {L : Nat} {r : Option FieldType} (h1 : Cond.methodLink own idx y ∈ lw_all) (h2 : Cond.static y ∈ lw_all) (h3 : Cond.initialized y.cls ∈ lw_all) (h4 : Cond.code y b L r ∈ lw_all) : GoodIn lw_all (va_wsS own idx y (ws_ y b L r)) := by
  refine lw_app ?_ (lw_meth h4)
  intro w hw
  simp only [List.mem_cons, List.not_mem_nil, or_false] at hw
  rcases hw with e | e | e
  · rw [e]; exact h1
  · rw [e]; exact h2
  · rw [e]; exact h3
/-- the words of a contract for a method WITH HANDLERS (hh: its table) -/
abbrev wsW_ (y : MethodName) (b : ByteArray) (L : Nat) (r : Option FieldType) (hh : List (Nat × Nat × Nat × Nat)) : List Cond := Cond.codeWith y b L r hh :: lw_all
theorem lw_methW {y : MethodName} {b : ByteArray} {L : Nat} {r : Option FieldType} {hh : List (Nat × Nat × Nat × Nat)} (h : Cond.codeWith y b L r hh ∈ lw_all) : GoodIn lw_all (wsW_ y b L r hh) := by
  intro w hw
  rcases List.mem_cons.mp hw with e | e
  · rw [e]
    exact lw_self _ h
  · exact lw_self _ e
/-- any list of words by their places (lw_in), good -/
theorem lw_good {ws : List Cond} (h : ∀ w ∈ ws, w ∈ lw_all) : GoodIn lw_all ws := fun w hw => lw_self w (h w hw)
/-- what a call of a method with handlers asks: vx_cwVW n hts (lw_VW ..), vx_cwSW n hts (lw_SW ..) -/
theorem lw_VW {own : String} {idx : Nat} {C : String} {y : MethodName} {b : ByteArray} {L : Nat} {r : Option FieldType} {hh : List (Nat × Nat × Nat × Nat)} (h1 : Cond.methodLink own idx y ∈ lw_all) (h2 : Cond.instanceMethod y ∈ lw_all) (h3 : Cond.selects C y y ∈ lw_all) (h4 : Cond.initialized C ∈ lw_all) (h5 : Cond.codeWith y b L r hh ∈ lw_all) : GoodIn lw_all (wsV own idx C y (wsW_ y b L r hh)) := by
  refine lw_app ?_ (lw_methW h5)
  intro w hw
  simp only [List.mem_cons, List.not_mem_nil, or_false] at hw
  rcases hw with e | e | e | e
  · rw [e]; exact h1
  · rw [e]; exact h2
  · rw [e]; exact h3
  · rw [e]; exact h4
theorem lw_SW {own : String} {idx : Nat} {y : MethodName} {b : ByteArray} {L : Nat} {r : Option FieldType} {hh : List (Nat × Nat × Nat × Nat)} (h1 : Cond.methodLink own idx y ∈ lw_all) (h2 : Cond.static y ∈ lw_all) (h3 : Cond.initialized y.cls ∈ lw_all) (h4 : Cond.codeWith y b L r hh ∈ lw_all) : GoodIn lw_all (va_wsS own idx y (wsW_ y b L r hh)) := by
  refine lw_app ?_ (lw_methW h4)
  intro w hw
  simp only [List.mem_cons, List.not_mem_nil, or_false] at hw
  rcases hw with e | e | e
  · rw [e]; exact h1
  · rw [e]; exact h2
  · rw [e]; exact h3
/-- a word by its place in its run of the tables -/
theorem lw_at {r : List Cond} (hr : ∀ w ∈ r, w ∈ lw_tbl) {w : Cond} (i : Nat) (h : r[i]? = some w) : w ∈ lw_tbl := hr w (List.mem_of_getElem? h)
theorem lw_g {w : Cond} (h : w ∈ lw_tbl) (g : goodWord w = true) : w ∈ lw_all := List.mem_filter.mpr ⟨h, g⟩
theorem lw_ms : ∀ w ∈ k2_sels lw_privs, w ∈ lw_tbl := fun w h => show w ∈ k2_sels lw_privs ++ tables_1 from List.mem_append_left _ h
theorem lw_m1 : ∀ w ∈ tables_1_1, w ∈ lw_tbl := fun w h => show w ∈ k2_sels lw_privs ++ tables_1 from List.mem_append_right (k2_sels lw_privs) (show w ∈ tables_1 from List.mem_append_left _ h)
theorem lw_m2 : ∀ w ∈ tables_1_2, w ∈ lw_tbl := fun w h => show w ∈ k2_sels lw_privs ++ tables_1 from List.mem_append_right (k2_sels lw_privs) (show w ∈ tables_1 from List.mem_append_right _ h)
theorem qs0 : (Cond.selects "NodeTableFiles" ⟨"NodeTableFiles", "checkpoint", "()V"⟩ ⟨"NodeTableFiles", "checkpoint", "()V"⟩) ∈ lw_all := lw_g (lw_at lw_ms 0 rfl) rfl
theorem qs1 : (Cond.selects "NodeTableFiles" ⟨"NodeTableFiles", "writePack", "()V"⟩ ⟨"NodeTableFiles", "writePack", "()V"⟩) ∈ lw_all := lw_g (lw_at lw_ms 1 rfl) rfl
theorem qs2 : (Cond.selects "NodeTableFiles" ⟨"NodeTableFiles", "fresh", "()I"⟩ ⟨"NodeTableFiles", "fresh", "()I"⟩) ∈ lw_all := lw_g (lw_at lw_ms 2 rfl) rfl
theorem qs3 : (Cond.selects "NodeTableFiles" ⟨"NodeTableFiles", "survey", "()V"⟩ ⟨"NodeTableFiles", "survey", "()V"⟩) ∈ lw_all := lw_g (lw_at lw_ms 3 rfl) rfl
theorem qs4 : (Cond.selects "NodeTableFiles" ⟨"NodeTableFiles", "need", "(I)V"⟩ ⟨"NodeTableFiles", "need", "(I)V"⟩) ∈ lw_all := lw_g (lw_at lw_ms 4 rfl) rfl
theorem qs5 : (Cond.selects "NodeTableFiles" ⟨"NodeTableFiles", "freeIn", "(I)I"⟩ ⟨"NodeTableFiles", "freeIn", "(I)I"⟩) ∈ lw_all := lw_g (lw_at lw_ms 5 rfl) rfl
theorem qs6 : (Cond.selects "NodeTableFiles" ⟨"NodeTableFiles", "bad", "(I)Z"⟩ ⟨"NodeTableFiles", "bad", "(I)Z"⟩) ∈ lw_all := lw_g (lw_at lw_ms 6 rfl) rfl
theorem qs7 : (Cond.selects "NodeTableFiles" ⟨"NodeTableFiles", "writeNode", "(IIIII)V"⟩ ⟨"NodeTableFiles", "writeNode", "(IIIII)V"⟩) ∈ lw_all := lw_g (lw_at lw_ms 7 rfl) rfl
theorem qs8 : (Cond.selects "NodeTableFiles" ⟨"NodeTableFiles", "count", "()I"⟩ ⟨"NodeTableFiles", "count", "()I"⟩) ∈ lw_all := lw_g (lw_at lw_ms 8 rfl) rfl
theorem qs9 : (Cond.selects "NodeTableFiles" ⟨"NodeTableFiles", "mount", "()V"⟩ ⟨"NodeTableFiles", "mount", "()V"⟩) ∈ lw_all := lw_g (lw_at lw_ms 9 rfl) rfl
theorem qs10 : (Cond.selects "NodeTableFiles" ⟨"NodeTableFiles", "differs", "(II)Z"⟩ ⟨"NodeTableFiles", "differs", "(II)Z"⟩) ∈ lw_all := lw_g (lw_at lw_ms 10 rfl) rfl
theorem qs11 : (Cond.selects "NodeTableFilesModel" ⟨"NodeTableFilesModel", "isFile", "(I)Z"⟩ ⟨"NodeTableFilesModel", "isFile", "(I)Z"⟩) ∈ lw_all := lw_g (lw_at lw_ms 11 rfl) rfl
theorem qs12 : (Cond.selects "NodeTableFilesModel" ⟨"NodeTableFilesModel", "test", "(I)I"⟩ ⟨"NodeTableFilesModel", "test", "(I)I"⟩) ∈ lw_all := lw_g (lw_at lw_ms 12 rfl) rfl
theorem qs13 : (Cond.selects "NodeTableFilesModel" ⟨"NodeTableFilesModel", "copyContent", "(II)V"⟩ ⟨"NodeTableFilesModel", "copyContent", "(II)V"⟩) ∈ lw_all := lw_g (lw_at lw_ms 13 rfl) rfl
theorem qs14 : (Cond.selects "NodeTableFilesModel" ⟨"NodeTableFilesModel", "count", "()I"⟩ ⟨"NodeTableFilesModel", "count", "()I"⟩) ∈ lw_all := lw_g (lw_at lw_ms 14 rfl) rfl
theorem qs15 : (Cond.selects "NodeTableFilesModel" ⟨"NodeTableFilesModel", "differs", "(I)Z"⟩ ⟨"NodeTableFilesModel", "differs", "(I)Z"⟩) ∈ lw_all := lw_g (lw_at lw_ms 15 rfl) rfl
end
section
/-! java/lang/Object -/
set_option maxRecDepth 100000
def RJ0 : String := "java/lang/Object"
abbrev cJ0_init : ByteArray := object_method_1_code
def yJ0_init : MethodName := ⟨RJ0, "<init>", "()V"⟩
theorem q25 : (Jvm.Cond.instanceMethod ({ cls := "java/lang/Object", name := "<init>", desc := "()V" } : Jvm.MethodName)) ∈ lw_all := lw_g (lw_at lw_m1 9 rfl) rfl
theorem q26 : (Jvm.Cond.code ({ cls := "java/lang/Object", name := "<init>", desc := "()V" } : Jvm.MethodName) object_method_1_code (1 : Nat) (Option.none : Option Jvm.ClassFile.FieldType)) ∈ lw_all := lw_g (lw_at lw_m1 10 rfl) rfl

/-! NodeTableFiles -/
def y_of (c : Cond) : MethodName := match c with
  | .methodLink _ _ y => y
  | _ => ⟨"", "", ""⟩
def RX0 : String := "NodeTableFiles"
def TX0 : u_T := fun k => match k with
  | 0 => ("NodeTableFiles", "word", "[I", true)
  | 1 => ("NodeTableFiles", "nodeFile", "[I", true)
  | 2 => ("NodeTableFiles", "nodeSize", "[I", true)
  | 3 => ("NodeTableFiles", "nodeWord", "[I", true)
  | 4 => ("NodeTableFiles", "markOf", "[I", true)
  | 5 => ("NodeTableFiles", "chainNext", "[I", true)
  | 6 => ("NodeTableFiles", "packBegin", "[I", true)
  | 7 => ("NodeTableFiles", "packEnd", "[I", true)
  | 8 => ("NodeTableFiles", "packNode", "[I", true)
  | 9 => ("NodeTableFiles", "packChain", "[I", true)
  | 10 => ("NodeTableFiles", "nodeNow", "[I", true)
  | 11 => ("NodeTableFiles", "nodeLasting", "[I", true)
  | 12 => ("NodeTableFiles", "young", "[Z", true)
  | 13 => ("NodeTableFiles", "chain", "I", false)
  | 14 => ("NodeTableFiles", "chained", "I", false)
  | 15 => ("NodeTableFiles", "number", "I", false)
  | 16 => ("NodeTableFiles", "segment", "I", false)
  | _ => ("NodeTableFiles", "needed", "[Z", true)
def tyX0 : Nat → FieldType := fun k => match k with
  | 0 => .array .int
  | 1 => .array .int
  | 2 => .array .int
  | 3 => .array .int
  | 4 => .array .int
  | 5 => .array .int
  | 6 => .array .int
  | 7 => .array .int
  | 8 => .array .int
  | 9 => .array .int
  | 10 => .array .int
  | 11 => .array .int
  | 12 => .array .boolean
  | 13 => .int
  | 14 => .int
  | 15 => .int
  | 16 => .int
  | _ => .array .boolean
abbrev wsX00 : List Cond := u_ws RX0 TX0 18
set_option maxRecDepth 100000 in
theorem nmX0 : ∀ a, a < 18 → ∀ b, b < 18 → a ≠ b → (TX0 a).2.1 ≠ (TX0 b).2.1 := by decide +kernel
set_option maxRecDepth 100000 in
theorem tyX0_ok : ∀ k, k < 18 → parseFieldDescriptor (TX0 k).2.2.1 = some (tyX0 k) := by decide +kernel
abbrev cX0_init : ByteArray := prog_1_method_1_code
def yX0_init : MethodName := ⟨RX0, "<init>", "()V"⟩
abbrev cX0_checkpoint : ByteArray := prog_1_method_9_code
def yX0_checkpoint : MethodName := ⟨RX0, "checkpoint", "()V"⟩
abbrev cX0_writePack : ByteArray := prog_1_method_8_code
def yX0_writePack : MethodName := ⟨RX0, "writePack", "()V"⟩
abbrev cX0_fresh : ByteArray := prog_1_method_5_code
def yX0_fresh : MethodName := ⟨RX0, "fresh", "()I"⟩
abbrev cX0_survey : ByteArray := prog_1_method_3_code
def yX0_survey : MethodName := ⟨RX0, "survey", "()V"⟩
abbrev cX0_need : ByteArray := prog_1_method_2_code
def yX0_need : MethodName := ⟨RX0, "need", "(I)V"⟩
abbrev cX0_freeIn : ByteArray := prog_1_method_4_code
def yX0_freeIn : MethodName := ⟨RX0, "freeIn", "(I)I"⟩
abbrev cX0_create : ByteArray := prog_1_method_11_code
def yX0_create : MethodName := ⟨RX0, "create", "(I)I"⟩
abbrev cX0_bad : ByteArray := prog_1_method_7_code
def yX0_bad : MethodName := ⟨RX0, "bad", "(I)Z"⟩
abbrev cX0_writeNode : ByteArray := prog_1_method_6_code
def yX0_writeNode : MethodName := ⟨RX0, "writeNode", "(IIIII)V"⟩
abbrev cX0_remove : ByteArray := prog_1_method_12_code
def yX0_remove : MethodName := ⟨RX0, "remove", "(I)I"⟩
abbrev cX0_write : ByteArray := prog_1_method_13_code
def yX0_write : MethodName := ⟨RX0, "write", "(III)I"⟩
abbrev cX0_truncate : ByteArray := prog_1_method_14_code
def yX0_truncate : MethodName := ⟨RX0, "truncate", "(II)I"⟩
abbrev cX0_copy : ByteArray := prog_1_method_15_code
def yX0_copy : MethodName := ⟨RX0, "copy", "(II)I"⟩
abbrev cX0_fsync : ByteArray := prog_1_method_16_code
def yX0_fsync : MethodName := ⟨RX0, "fsync", "(I)I"⟩
abbrev cX0_sync : ByteArray := prog_1_method_18_code
def yX0_sync : MethodName := ⟨RX0, "sync", "()I"⟩
abbrev cX0_count : ByteArray := prog_1_method_17_code
def yX0_count : MethodName := ⟨RX0, "count", "()I"⟩
abbrev cX0_crash : ByteArray := prog_1_method_19_code
def yX0_crash : MethodName := ⟨RX0, "crash", "()I"⟩
abbrev cX0_mount : ByteArray := prog_1_method_10_code
def yX0_mount : MethodName := ⟨RX0, "mount", "()V"⟩
abbrev cX0_exists : ByteArray := prog_1_method_20_code
def yX0_exists : MethodName := ⟨RX0, "exists", "(I)Z"⟩
abbrev cX0_size : ByteArray := prog_1_method_21_code
def yX0_size : MethodName := ⟨RX0, "size", "(I)I"⟩
abbrev cX0_read : ByteArray := prog_1_method_22_code
def yX0_read : MethodName := ⟨RX0, "read", "(II)I"⟩
abbrev cX0_uns : ByteArray := prog_1_method_24_code
def yX0_uns : MethodName := y_of (tables_1_1.getD 152 Cond.tt)
abbrev cX0_differs : ByteArray := prog_1_method_23_code
def yX0_differs : MethodName := ⟨RX0, "differs", "(II)Z"⟩
abbrev cX0_digest : ByteArray := prog_1_method_25_code
def yX0_digest : MethodName := ⟨RX0, "digest", "()I"⟩
theorem q17 : (Jvm.Cond.initialized "NodeTableFiles") ∈ lw_all := lw_g (lw_at lw_m1 1 rfl) rfl
theorem q20 : (Jvm.Cond.instantiable "NodeTableFiles" (18 : Nat)) ∈ lw_all := lw_g (lw_at lw_m1 4 rfl) rfl
theorem q22 : (Jvm.Cond.instanceMethod ({ cls := "NodeTableFiles", name := "<init>", desc := "()V" } : Jvm.MethodName)) ∈ lw_all := lw_g (lw_at lw_m1 6 rfl) rfl
theorem q23 : (Jvm.Cond.code ({ cls := "NodeTableFiles", name := "<init>", desc := "()V" } : Jvm.MethodName) prog_1_method_1_code (2 : Nat) (Option.none : Option Jvm.ClassFile.FieldType)) ∈ lw_all := lw_g (lw_at lw_m1 7 rfl) rfl
theorem q24 : (Jvm.Cond.methodLink "NodeTableFiles" (1 : Nat) ({ cls := "java/lang/Object", name := "<init>", desc := "()V" } : Jvm.MethodName)) ∈ lw_all := lw_g (lw_at lw_m1 8 rfl) rfl
theorem q27 : (Jvm.Cond.methodLink "NodeTableFiles" (57 : Nat) ({ cls := "NodeTableFiles", name := "checkpoint", desc := "()V" } : Jvm.MethodName)) ∈ lw_all := lw_g (lw_at lw_m1 11 rfl) rfl
theorem q28 : (Jvm.Cond.privateMethod ({ cls := "NodeTableFiles", name := "checkpoint", desc := "()V" } : Jvm.MethodName)) ∈ lw_tbl := lw_at lw_m1 12 rfl
theorem q29 : (Jvm.Cond.instanceMethod ({ cls := "NodeTableFiles", name := "checkpoint", desc := "()V" } : Jvm.MethodName)) ∈ lw_all := lw_g (lw_at lw_m1 13 rfl) rfl
theorem q30 : (Jvm.Cond.code ({ cls := "NodeTableFiles", name := "checkpoint", desc := "()V" } : Jvm.MethodName) prog_1_method_9_code (2 : Nat) (Option.none : Option Jvm.ClassFile.FieldType)) ∈ lw_all := lw_g (lw_at lw_m1 14 rfl) rfl
theorem q31 : (Jvm.Cond.methodLink "NodeTableFiles" (84 : Nat) ({ cls := "NodeTableFiles", name := "writePack", desc := "()V" } : Jvm.MethodName)) ∈ lw_all := lw_g (lw_at lw_m1 15 rfl) rfl
theorem q32 : (Jvm.Cond.privateMethod ({ cls := "NodeTableFiles", name := "writePack", desc := "()V" } : Jvm.MethodName)) ∈ lw_tbl := lw_at lw_m1 16 rfl
theorem q33 : (Jvm.Cond.instanceMethod ({ cls := "NodeTableFiles", name := "writePack", desc := "()V" } : Jvm.MethodName)) ∈ lw_all := lw_g (lw_at lw_m1 17 rfl) rfl
theorem q34 : (Jvm.Cond.code ({ cls := "NodeTableFiles", name := "writePack", desc := "()V" } : Jvm.MethodName) prog_1_method_8_code (3 : Nat) (Option.none : Option Jvm.ClassFile.FieldType)) ∈ lw_all := lw_g (lw_at lw_m1 18 rfl) rfl
theorem q35 : (Jvm.Cond.methodLink "NodeTableFiles" (80 : Nat) ({ cls := "NodeTableFiles", name := "fresh", desc := "()I" } : Jvm.MethodName)) ∈ lw_all := lw_g (lw_at lw_m1 19 rfl) rfl
theorem q36 : (Jvm.Cond.privateMethod ({ cls := "NodeTableFiles", name := "fresh", desc := "()I" } : Jvm.MethodName)) ∈ lw_tbl := lw_at lw_m1 20 rfl
theorem q37 : (Jvm.Cond.instanceMethod ({ cls := "NodeTableFiles", name := "fresh", desc := "()I" } : Jvm.MethodName)) ∈ lw_all := lw_g (lw_at lw_m1 21 rfl) rfl
theorem q38 : (Jvm.Cond.code ({ cls := "NodeTableFiles", name := "fresh", desc := "()I" } : Jvm.MethodName) prog_1_method_5_code (5 : Nat) (Option.some Jvm.ClassFile.FieldType.int)) ∈ lw_all := lw_g (lw_at lw_m1 22 rfl) rfl
theorem q39 : (Jvm.Cond.methodLink "NodeTableFiles" (70 : Nat) ({ cls := "NodeTableFiles", name := "survey", desc := "()V" } : Jvm.MethodName)) ∈ lw_all := lw_g (lw_at lw_m1 23 rfl) rfl
theorem q40 : (Jvm.Cond.privateMethod ({ cls := "NodeTableFiles", name := "survey", desc := "()V" } : Jvm.MethodName)) ∈ lw_tbl := lw_at lw_m1 24 rfl
theorem q41 : (Jvm.Cond.instanceMethod ({ cls := "NodeTableFiles", name := "survey", desc := "()V" } : Jvm.MethodName)) ∈ lw_all := lw_g (lw_at lw_m1 25 rfl) rfl
theorem q42 : (Jvm.Cond.code ({ cls := "NodeTableFiles", name := "survey", desc := "()V" } : Jvm.MethodName) prog_1_method_3_code (3 : Nat) (Option.none : Option Jvm.ClassFile.FieldType)) ∈ lw_all := lw_g (lw_at lw_m1 26 rfl) rfl
theorem q43 : (Jvm.Cond.methodLink "NodeTableFiles" (60 : Nat) ({ cls := "NodeTableFiles", name := "need", desc := "(I)V" } : Jvm.MethodName)) ∈ lw_all := lw_g (lw_at lw_m1 27 rfl) rfl
theorem q44 : (Jvm.Cond.privateMethod ({ cls := "NodeTableFiles", name := "need", desc := "(I)V" } : Jvm.MethodName)) ∈ lw_tbl := lw_at lw_m1 28 rfl
theorem q45 : (Jvm.Cond.instanceMethod ({ cls := "NodeTableFiles", name := "need", desc := "(I)V" } : Jvm.MethodName)) ∈ lw_all := lw_g (lw_at lw_m1 29 rfl) rfl
theorem q46 : (Jvm.Cond.code ({ cls := "NodeTableFiles", name := "need", desc := "(I)V" } : Jvm.MethodName) prog_1_method_2_code (3 : Nat) (Option.none : Option Jvm.ClassFile.FieldType)) ∈ lw_all := lw_g (lw_at lw_m1 30 rfl) rfl
theorem q47 : (Jvm.Cond.methodLink "NodeTableFiles" (76 : Nat) ({ cls := "NodeTableFiles", name := "freeIn", desc := "(I)I" } : Jvm.MethodName)) ∈ lw_all := lw_g (lw_at lw_m1 31 rfl) rfl
theorem q48 : (Jvm.Cond.privateMethod ({ cls := "NodeTableFiles", name := "freeIn", desc := "(I)I" } : Jvm.MethodName)) ∈ lw_tbl := lw_at lw_m1 32 rfl
theorem q49 : (Jvm.Cond.instanceMethod ({ cls := "NodeTableFiles", name := "freeIn", desc := "(I)I" } : Jvm.MethodName)) ∈ lw_all := lw_g (lw_at lw_m1 33 rfl) rfl
theorem q50 : (Jvm.Cond.code ({ cls := "NodeTableFiles", name := "freeIn", desc := "(I)I" } : Jvm.MethodName) prog_1_method_4_code (4 : Nat) (Option.some Jvm.ClassFile.FieldType.int)) ∈ lw_all := lw_g (lw_at lw_m1 34 rfl) rfl
theorem q51 : (Jvm.Cond.fieldLink "NodeTableFiles" (7 : Nat) "NodeTableFiles" "word" "[I") ∈ lw_all := lw_g (lw_at lw_m1 35 rfl) rfl
theorem q52 : (Jvm.Cond.fieldLink "NodeTableFiles" (13 : Nat) "NodeTableFiles" "nodeFile" "[I") ∈ lw_all := lw_g (lw_at lw_m1 36 rfl) rfl
theorem q53 : (Jvm.Cond.fieldLink "NodeTableFiles" (16 : Nat) "NodeTableFiles" "nodeSize" "[I") ∈ lw_all := lw_g (lw_at lw_m1 37 rfl) rfl
theorem q54 : (Jvm.Cond.fieldLink "NodeTableFiles" (19 : Nat) "NodeTableFiles" "nodeWord" "[I") ∈ lw_all := lw_g (lw_at lw_m1 38 rfl) rfl
theorem q55 : (Jvm.Cond.fieldLink "NodeTableFiles" (22 : Nat) "NodeTableFiles" "markOf" "[I") ∈ lw_all := lw_g (lw_at lw_m1 39 rfl) rfl
theorem q56 : (Jvm.Cond.fieldLink "NodeTableFiles" (25 : Nat) "NodeTableFiles" "chainNext" "[I") ∈ lw_all := lw_g (lw_at lw_m1 40 rfl) rfl
theorem q57 : (Jvm.Cond.fieldLink "NodeTableFiles" (28 : Nat) "NodeTableFiles" "packBegin" "[I") ∈ lw_all := lw_g (lw_at lw_m1 41 rfl) rfl
theorem q58 : (Jvm.Cond.fieldLink "NodeTableFiles" (31 : Nat) "NodeTableFiles" "packEnd" "[I") ∈ lw_all := lw_g (lw_at lw_m1 42 rfl) rfl
theorem q59 : (Jvm.Cond.fieldLink "NodeTableFiles" (34 : Nat) "NodeTableFiles" "packNode" "[I") ∈ lw_all := lw_g (lw_at lw_m1 43 rfl) rfl
theorem q60 : (Jvm.Cond.fieldLink "NodeTableFiles" (37 : Nat) "NodeTableFiles" "packChain" "[I") ∈ lw_all := lw_g (lw_at lw_m1 44 rfl) rfl
theorem q61 : (Jvm.Cond.fieldLink "NodeTableFiles" (40 : Nat) "NodeTableFiles" "nodeNow" "[I") ∈ lw_all := lw_g (lw_at lw_m1 45 rfl) rfl
theorem q62 : (Jvm.Cond.fieldLink "NodeTableFiles" (43 : Nat) "NodeTableFiles" "nodeLasting" "[I") ∈ lw_all := lw_g (lw_at lw_m1 46 rfl) rfl
theorem q63 : (Jvm.Cond.fieldLink "NodeTableFiles" (46 : Nat) "NodeTableFiles" "young" "[Z") ∈ lw_all := lw_g (lw_at lw_m1 47 rfl) rfl
theorem q64 : (Jvm.Cond.fieldLink "NodeTableFiles" (53 : Nat) "NodeTableFiles" "chain" "I") ∈ lw_all := lw_g (lw_at lw_m1 48 rfl) rfl
theorem q65 : (Jvm.Cond.fieldLink "NodeTableFiles" (67 : Nat) "NodeTableFiles" "chained" "I") ∈ lw_all := lw_g (lw_at lw_m1 49 rfl) rfl
theorem q66 : (Jvm.Cond.fieldLink "NodeTableFiles" (64 : Nat) "NodeTableFiles" "number" "I") ∈ lw_all := lw_g (lw_at lw_m1 50 rfl) rfl
theorem q67 : (Jvm.Cond.fieldLink "NodeTableFiles" (73 : Nat) "NodeTableFiles" "segment" "I") ∈ lw_all := lw_g (lw_at lw_m1 51 rfl) rfl
theorem q68 : (Jvm.Cond.fieldLink "NodeTableFiles" (50 : Nat) "NodeTableFiles" "needed" "[Z") ∈ lw_all := lw_g (lw_at lw_m1 52 rfl) rfl
theorem q69 : (Jvm.Cond.laysFinal "NodeTableFiles" "NodeTableFiles" "word" "[I") ∈ lw_all := lw_g (lw_at lw_m1 53 rfl) rfl
theorem q70 : (Jvm.Cond.soleField "NodeTableFiles" "word") ∈ lw_all := lw_g (lw_at lw_m1 54 rfl) rfl
theorem q71 : (Jvm.Cond.laysFinal "NodeTableFiles" "NodeTableFiles" "nodeFile" "[I") ∈ lw_all := lw_g (lw_at lw_m1 55 rfl) rfl
theorem q72 : (Jvm.Cond.soleField "NodeTableFiles" "nodeFile") ∈ lw_all := lw_g (lw_at lw_m1 56 rfl) rfl
theorem q73 : (Jvm.Cond.laysFinal "NodeTableFiles" "NodeTableFiles" "nodeSize" "[I") ∈ lw_all := lw_g (lw_at lw_m1 57 rfl) rfl
theorem q74 : (Jvm.Cond.soleField "NodeTableFiles" "nodeSize") ∈ lw_all := lw_g (lw_at lw_m1 58 rfl) rfl
theorem q75 : (Jvm.Cond.laysFinal "NodeTableFiles" "NodeTableFiles" "nodeWord" "[I") ∈ lw_all := lw_g (lw_at lw_m1 59 rfl) rfl
theorem q76 : (Jvm.Cond.soleField "NodeTableFiles" "nodeWord") ∈ lw_all := lw_g (lw_at lw_m1 60 rfl) rfl
theorem q77 : (Jvm.Cond.laysFinal "NodeTableFiles" "NodeTableFiles" "markOf" "[I") ∈ lw_all := lw_g (lw_at lw_m1 61 rfl) rfl
theorem q78 : (Jvm.Cond.soleField "NodeTableFiles" "markOf") ∈ lw_all := lw_g (lw_at lw_m1 62 rfl) rfl
theorem q79 : (Jvm.Cond.laysFinal "NodeTableFiles" "NodeTableFiles" "chainNext" "[I") ∈ lw_all := lw_g (lw_at lw_m1 63 rfl) rfl
theorem q80 : (Jvm.Cond.soleField "NodeTableFiles" "chainNext") ∈ lw_all := lw_g (lw_at lw_m1 64 rfl) rfl
theorem q81 : (Jvm.Cond.laysFinal "NodeTableFiles" "NodeTableFiles" "packBegin" "[I") ∈ lw_all := lw_g (lw_at lw_m1 65 rfl) rfl
theorem q82 : (Jvm.Cond.soleField "NodeTableFiles" "packBegin") ∈ lw_all := lw_g (lw_at lw_m1 66 rfl) rfl
theorem q83 : (Jvm.Cond.laysFinal "NodeTableFiles" "NodeTableFiles" "packEnd" "[I") ∈ lw_all := lw_g (lw_at lw_m1 67 rfl) rfl
theorem q84 : (Jvm.Cond.soleField "NodeTableFiles" "packEnd") ∈ lw_all := lw_g (lw_at lw_m1 68 rfl) rfl
theorem q85 : (Jvm.Cond.laysFinal "NodeTableFiles" "NodeTableFiles" "packNode" "[I") ∈ lw_all := lw_g (lw_at lw_m1 69 rfl) rfl
theorem q86 : (Jvm.Cond.soleField "NodeTableFiles" "packNode") ∈ lw_all := lw_g (lw_at lw_m1 70 rfl) rfl
theorem q87 : (Jvm.Cond.laysFinal "NodeTableFiles" "NodeTableFiles" "packChain" "[I") ∈ lw_all := lw_g (lw_at lw_m1 71 rfl) rfl
theorem q88 : (Jvm.Cond.soleField "NodeTableFiles" "packChain") ∈ lw_all := lw_g (lw_at lw_m1 72 rfl) rfl
theorem q89 : (Jvm.Cond.laysFinal "NodeTableFiles" "NodeTableFiles" "nodeNow" "[I") ∈ lw_all := lw_g (lw_at lw_m1 73 rfl) rfl
theorem q90 : (Jvm.Cond.soleField "NodeTableFiles" "nodeNow") ∈ lw_all := lw_g (lw_at lw_m1 74 rfl) rfl
theorem q91 : (Jvm.Cond.laysFinal "NodeTableFiles" "NodeTableFiles" "nodeLasting" "[I") ∈ lw_all := lw_g (lw_at lw_m1 75 rfl) rfl
theorem q92 : (Jvm.Cond.soleField "NodeTableFiles" "nodeLasting") ∈ lw_all := lw_g (lw_at lw_m1 76 rfl) rfl
theorem q93 : (Jvm.Cond.laysFinal "NodeTableFiles" "NodeTableFiles" "young" "[Z") ∈ lw_all := lw_g (lw_at lw_m1 77 rfl) rfl
theorem q94 : (Jvm.Cond.soleField "NodeTableFiles" "young") ∈ lw_all := lw_g (lw_at lw_m1 78 rfl) rfl
theorem q95 : (Jvm.Cond.lays "NodeTableFiles" "NodeTableFiles" "chain" "I") ∈ lw_all := lw_g (lw_at lw_m1 79 rfl) rfl
theorem q96 : (Jvm.Cond.soleField "NodeTableFiles" "chain") ∈ lw_all := lw_g (lw_at lw_m1 80 rfl) rfl
theorem q97 : (Jvm.Cond.lays "NodeTableFiles" "NodeTableFiles" "chained" "I") ∈ lw_all := lw_g (lw_at lw_m1 81 rfl) rfl
theorem q98 : (Jvm.Cond.soleField "NodeTableFiles" "chained") ∈ lw_all := lw_g (lw_at lw_m1 82 rfl) rfl
theorem q99 : (Jvm.Cond.lays "NodeTableFiles" "NodeTableFiles" "number" "I") ∈ lw_all := lw_g (lw_at lw_m1 83 rfl) rfl
theorem q100 : (Jvm.Cond.soleField "NodeTableFiles" "number") ∈ lw_all := lw_g (lw_at lw_m1 84 rfl) rfl
theorem q101 : (Jvm.Cond.lays "NodeTableFiles" "NodeTableFiles" "segment" "I") ∈ lw_all := lw_g (lw_at lw_m1 85 rfl) rfl
theorem q102 : (Jvm.Cond.soleField "NodeTableFiles" "segment") ∈ lw_all := lw_g (lw_at lw_m1 86 rfl) rfl
theorem q103 : (Jvm.Cond.laysFinal "NodeTableFiles" "NodeTableFiles" "needed" "[Z") ∈ lw_all := lw_g (lw_at lw_m1 87 rfl) rfl
theorem q104 : (Jvm.Cond.soleField "NodeTableFiles" "needed") ∈ lw_all := lw_g (lw_at lw_m1 88 rfl) rfl
theorem q105 : (Jvm.Cond.superclass "NodeTableFiles" "java/lang/Object") ∈ lw_all := lw_g (lw_at lw_m1 89 rfl) rfl
theorem q109 : (Jvm.Cond.instanceMethod ({ cls := "NodeTableFiles", name := "create", desc := "(I)I" } : Jvm.MethodName)) ∈ lw_all := lw_g (lw_at lw_m1 93 rfl) rfl
theorem q110 : (Jvm.Cond.selects "NodeTableFiles" ({ cls := "NodeTableFiles", name := "create", desc := "(I)I" } : Jvm.MethodName) ({ cls := "NodeTableFiles", name := "create", desc := "(I)I" } : Jvm.MethodName)) ∈ lw_all := lw_g (lw_at lw_m1 94 rfl) rfl
theorem q111 : (Jvm.Cond.code ({ cls := "NodeTableFiles", name := "create", desc := "(I)I" } : Jvm.MethodName) prog_1_method_11_code (2 : Nat) (Option.some Jvm.ClassFile.FieldType.int)) ∈ lw_all := lw_g (lw_at lw_m1 95 rfl) rfl
theorem q112 : (Jvm.Cond.methodLink "NodeTableFiles" (87 : Nat) ({ cls := "NodeTableFiles", name := "bad", desc := "(I)Z" } : Jvm.MethodName)) ∈ lw_all := lw_g (lw_at lw_m1 96 rfl) rfl
theorem q113 : (Jvm.Cond.privateMethod ({ cls := "NodeTableFiles", name := "bad", desc := "(I)Z" } : Jvm.MethodName)) ∈ lw_tbl := lw_at lw_m1 97 rfl
theorem q114 : (Jvm.Cond.instanceMethod ({ cls := "NodeTableFiles", name := "bad", desc := "(I)Z" } : Jvm.MethodName)) ∈ lw_all := lw_g (lw_at lw_m1 98 rfl) rfl
theorem q115 : (Jvm.Cond.code ({ cls := "NodeTableFiles", name := "bad", desc := "(I)Z" } : Jvm.MethodName) prog_1_method_7_code (2 : Nat) (Option.some Jvm.ClassFile.FieldType.boolean)) ∈ lw_all := lw_g (lw_at lw_m1 99 rfl) rfl
theorem q116 : (Jvm.Cond.methodLink "NodeTableFiles" (91 : Nat) ({ cls := "NodeTableFiles", name := "writeNode", desc := "(IIIII)V" } : Jvm.MethodName)) ∈ lw_all := lw_g (lw_at lw_m1 100 rfl) rfl
theorem q117 : (Jvm.Cond.privateMethod ({ cls := "NodeTableFiles", name := "writeNode", desc := "(IIIII)V" } : Jvm.MethodName)) ∈ lw_tbl := lw_at lw_m1 101 rfl
theorem q118 : (Jvm.Cond.instanceMethod ({ cls := "NodeTableFiles", name := "writeNode", desc := "(IIIII)V" } : Jvm.MethodName)) ∈ lw_all := lw_g (lw_at lw_m1 102 rfl) rfl
theorem q119 : (Jvm.Cond.code ({ cls := "NodeTableFiles", name := "writeNode", desc := "(IIIII)V" } : Jvm.MethodName) prog_1_method_6_code (9 : Nat) (Option.none : Option Jvm.ClassFile.FieldType)) ∈ lw_all := lw_g (lw_at lw_m1 103 rfl) rfl
theorem q121 : (Jvm.Cond.instanceMethod ({ cls := "NodeTableFiles", name := "remove", desc := "(I)I" } : Jvm.MethodName)) ∈ lw_all := lw_g (lw_at lw_m1 105 rfl) rfl
theorem q122 : (Jvm.Cond.selects "NodeTableFiles" ({ cls := "NodeTableFiles", name := "remove", desc := "(I)I" } : Jvm.MethodName) ({ cls := "NodeTableFiles", name := "remove", desc := "(I)I" } : Jvm.MethodName)) ∈ lw_all := lw_g (lw_at lw_m1 106 rfl) rfl
theorem q123 : (Jvm.Cond.code ({ cls := "NodeTableFiles", name := "remove", desc := "(I)I" } : Jvm.MethodName) prog_1_method_12_code (3 : Nat) (Option.some Jvm.ClassFile.FieldType.int)) ∈ lw_all := lw_g (lw_at lw_m1 107 rfl) rfl
theorem q125 : (Jvm.Cond.instanceMethod ({ cls := "NodeTableFiles", name := "write", desc := "(III)I" } : Jvm.MethodName)) ∈ lw_all := lw_g (lw_at lw_m1 109 rfl) rfl
theorem q126 : (Jvm.Cond.selects "NodeTableFiles" ({ cls := "NodeTableFiles", name := "write", desc := "(III)I" } : Jvm.MethodName) ({ cls := "NodeTableFiles", name := "write", desc := "(III)I" } : Jvm.MethodName)) ∈ lw_all := lw_g (lw_at lw_m1 110 rfl) rfl
theorem q127 : (Jvm.Cond.code ({ cls := "NodeTableFiles", name := "write", desc := "(III)I" } : Jvm.MethodName) prog_1_method_13_code (7 : Nat) (Option.some Jvm.ClassFile.FieldType.int)) ∈ lw_all := lw_g (lw_at lw_m1 111 rfl) rfl
theorem q129 : (Jvm.Cond.instanceMethod ({ cls := "NodeTableFiles", name := "truncate", desc := "(II)I" } : Jvm.MethodName)) ∈ lw_all := lw_g (lw_at lw_m1 113 rfl) rfl
theorem q130 : (Jvm.Cond.selects "NodeTableFiles" ({ cls := "NodeTableFiles", name := "truncate", desc := "(II)I" } : Jvm.MethodName) ({ cls := "NodeTableFiles", name := "truncate", desc := "(II)I" } : Jvm.MethodName)) ∈ lw_all := lw_g (lw_at lw_m1 114 rfl) rfl
theorem q131 : (Jvm.Cond.code ({ cls := "NodeTableFiles", name := "truncate", desc := "(II)I" } : Jvm.MethodName) prog_1_method_14_code (5 : Nat) (Option.some Jvm.ClassFile.FieldType.int)) ∈ lw_all := lw_g (lw_at lw_m1 115 rfl) rfl
theorem q133 : (Jvm.Cond.instanceMethod ({ cls := "NodeTableFiles", name := "copy", desc := "(II)I" } : Jvm.MethodName)) ∈ lw_all := lw_g (lw_at lw_m1 117 rfl) rfl
theorem q134 : (Jvm.Cond.selects "NodeTableFiles" ({ cls := "NodeTableFiles", name := "copy", desc := "(II)I" } : Jvm.MethodName) ({ cls := "NodeTableFiles", name := "copy", desc := "(II)I" } : Jvm.MethodName)) ∈ lw_all := lw_g (lw_at lw_m1 118 rfl) rfl
theorem q135 : (Jvm.Cond.code ({ cls := "NodeTableFiles", name := "copy", desc := "(II)I" } : Jvm.MethodName) prog_1_method_15_code (7 : Nat) (Option.some Jvm.ClassFile.FieldType.int)) ∈ lw_all := lw_g (lw_at lw_m1 119 rfl) rfl
theorem q137 : (Jvm.Cond.instanceMethod ({ cls := "NodeTableFiles", name := "fsync", desc := "(I)I" } : Jvm.MethodName)) ∈ lw_all := lw_g (lw_at lw_m1 121 rfl) rfl
theorem q138 : (Jvm.Cond.selects "NodeTableFiles" ({ cls := "NodeTableFiles", name := "fsync", desc := "(I)I" } : Jvm.MethodName) ({ cls := "NodeTableFiles", name := "fsync", desc := "(I)I" } : Jvm.MethodName)) ∈ lw_all := lw_g (lw_at lw_m1 122 rfl) rfl
theorem q139 : (Jvm.Cond.code ({ cls := "NodeTableFiles", name := "fsync", desc := "(I)I" } : Jvm.MethodName) prog_1_method_16_code (5 : Nat) (Option.some Jvm.ClassFile.FieldType.int)) ∈ lw_all := lw_g (lw_at lw_m1 123 rfl) rfl
theorem q141 : (Jvm.Cond.instanceMethod ({ cls := "NodeTableFiles", name := "sync", desc := "()I" } : Jvm.MethodName)) ∈ lw_all := lw_g (lw_at lw_m1 125 rfl) rfl
theorem q142 : (Jvm.Cond.selects "NodeTableFiles" ({ cls := "NodeTableFiles", name := "sync", desc := "()I" } : Jvm.MethodName) ({ cls := "NodeTableFiles", name := "sync", desc := "()I" } : Jvm.MethodName)) ∈ lw_all := lw_g (lw_at lw_m1 126 rfl) rfl
theorem q143 : (Jvm.Cond.code ({ cls := "NodeTableFiles", name := "sync", desc := "()I" } : Jvm.MethodName) prog_1_method_18_code (1 : Nat) (Option.some Jvm.ClassFile.FieldType.int)) ∈ lw_all := lw_g (lw_at lw_m1 127 rfl) rfl
theorem q144 : (Jvm.Cond.methodLink "NodeTableFiles" (95 : Nat) ({ cls := "NodeTableFiles", name := "count", desc := "()I" } : Jvm.MethodName)) ∈ lw_all := lw_g (lw_at lw_m1 128 rfl) rfl
theorem q145 : (Jvm.Cond.privateMethod ({ cls := "NodeTableFiles", name := "count", desc := "()I" } : Jvm.MethodName)) ∈ lw_tbl := lw_at lw_m1 129 rfl
theorem q146 : (Jvm.Cond.instanceMethod ({ cls := "NodeTableFiles", name := "count", desc := "()I" } : Jvm.MethodName)) ∈ lw_all := lw_g (lw_at lw_m1 130 rfl) rfl
theorem q147 : (Jvm.Cond.code ({ cls := "NodeTableFiles", name := "count", desc := "()I" } : Jvm.MethodName) prog_1_method_17_code (3 : Nat) (Option.some Jvm.ClassFile.FieldType.int)) ∈ lw_all := lw_g (lw_at lw_m1 131 rfl) rfl
theorem q149 : (Jvm.Cond.instanceMethod ({ cls := "NodeTableFiles", name := "crash", desc := "()I" } : Jvm.MethodName)) ∈ lw_all := lw_g (lw_at lw_m1 133 rfl) rfl
theorem q150 : (Jvm.Cond.selects "NodeTableFiles" ({ cls := "NodeTableFiles", name := "crash", desc := "()I" } : Jvm.MethodName) ({ cls := "NodeTableFiles", name := "crash", desc := "()I" } : Jvm.MethodName)) ∈ lw_all := lw_g (lw_at lw_m1 134 rfl) rfl
theorem q151 : (Jvm.Cond.code ({ cls := "NodeTableFiles", name := "crash", desc := "()I" } : Jvm.MethodName) prog_1_method_19_code (1 : Nat) (Option.some Jvm.ClassFile.FieldType.int)) ∈ lw_all := lw_g (lw_at lw_m1 135 rfl) rfl
theorem q152 : (Jvm.Cond.methodLink "NodeTableFiles" (98 : Nat) ({ cls := "NodeTableFiles", name := "mount", desc := "()V" } : Jvm.MethodName)) ∈ lw_all := lw_g (lw_at lw_m1 136 rfl) rfl
theorem q153 : (Jvm.Cond.privateMethod ({ cls := "NodeTableFiles", name := "mount", desc := "()V" } : Jvm.MethodName)) ∈ lw_tbl := lw_at lw_m1 137 rfl
theorem q154 : (Jvm.Cond.instanceMethod ({ cls := "NodeTableFiles", name := "mount", desc := "()V" } : Jvm.MethodName)) ∈ lw_all := lw_g (lw_at lw_m1 138 rfl) rfl
theorem q155 : (Jvm.Cond.code ({ cls := "NodeTableFiles", name := "mount", desc := "()V" } : Jvm.MethodName) prog_1_method_10_code (3 : Nat) (Option.none : Option Jvm.ClassFile.FieldType)) ∈ lw_all := lw_g (lw_at lw_m1 139 rfl) rfl
theorem q157 : (Jvm.Cond.instanceMethod ({ cls := "NodeTableFiles", name := "exists", desc := "(I)Z" } : Jvm.MethodName)) ∈ lw_all := lw_g (lw_at lw_m1 141 rfl) rfl
theorem q158 : (Jvm.Cond.selects "NodeTableFiles" ({ cls := "NodeTableFiles", name := "exists", desc := "(I)Z" } : Jvm.MethodName) ({ cls := "NodeTableFiles", name := "exists", desc := "(I)Z" } : Jvm.MethodName)) ∈ lw_all := lw_g (lw_at lw_m1 142 rfl) rfl
theorem q159 : (Jvm.Cond.code ({ cls := "NodeTableFiles", name := "exists", desc := "(I)Z" } : Jvm.MethodName) prog_1_method_20_code (2 : Nat) (Option.some Jvm.ClassFile.FieldType.boolean)) ∈ lw_all := lw_g (lw_at lw_m1 143 rfl) rfl
theorem q161 : (Jvm.Cond.instanceMethod ({ cls := "NodeTableFiles", name := "size", desc := "(I)I" } : Jvm.MethodName)) ∈ lw_all := lw_g (lw_at lw_m1 145 rfl) rfl
theorem q162 : (Jvm.Cond.selects "NodeTableFiles" ({ cls := "NodeTableFiles", name := "size", desc := "(I)I" } : Jvm.MethodName) ({ cls := "NodeTableFiles", name := "size", desc := "(I)I" } : Jvm.MethodName)) ∈ lw_all := lw_g (lw_at lw_m1 146 rfl) rfl
theorem q163 : (Jvm.Cond.code ({ cls := "NodeTableFiles", name := "size", desc := "(I)I" } : Jvm.MethodName) prog_1_method_21_code (2 : Nat) (Option.some Jvm.ClassFile.FieldType.int)) ∈ lw_all := lw_g (lw_at lw_m1 147 rfl) rfl
theorem q165 : (Jvm.Cond.instanceMethod ({ cls := "NodeTableFiles", name := "read", desc := "(II)I" } : Jvm.MethodName)) ∈ lw_all := lw_g (lw_at lw_m1 149 rfl) rfl
theorem q166 : (Jvm.Cond.selects "NodeTableFiles" ({ cls := "NodeTableFiles", name := "read", desc := "(II)I" } : Jvm.MethodName) ({ cls := "NodeTableFiles", name := "read", desc := "(II)I" } : Jvm.MethodName)) ∈ lw_all := lw_g (lw_at lw_m1 150 rfl) rfl
theorem q167 : (Jvm.Cond.code ({ cls := "NodeTableFiles", name := "read", desc := "(II)I" } : Jvm.MethodName) prog_1_method_22_code (3 : Nat) (Option.some Jvm.ClassFile.FieldType.int)) ∈ lw_all := lw_g (lw_at lw_m1 151 rfl) rfl
theorem q169 : (Jvm.Cond.instanceMethod yX0_uns) ∈ lw_all := lw_g (lw_at lw_m1 153 rfl) rfl
theorem q170 : (Jvm.Cond.selects "NodeTableFiles" yX0_uns yX0_uns) ∈ lw_all := lw_g (lw_at lw_m1 154 rfl) rfl
theorem q171 : (Jvm.Cond.code yX0_uns prog_1_method_24_code (4 : Nat) (Option.some Jvm.ClassFile.FieldType.int)) ∈ lw_all := lw_g (lw_at lw_m1 155 rfl) rfl
theorem q172 : (Jvm.Cond.methodLink "NodeTableFiles" (101 : Nat) ({ cls := "NodeTableFiles", name := "differs", desc := "(II)Z" } : Jvm.MethodName)) ∈ lw_all := lw_g (lw_at lw_m1 156 rfl) rfl
theorem q173 : (Jvm.Cond.privateMethod ({ cls := "NodeTableFiles", name := "differs", desc := "(II)Z" } : Jvm.MethodName)) ∈ lw_tbl := lw_at lw_m1 157 rfl
theorem q174 : (Jvm.Cond.instanceMethod ({ cls := "NodeTableFiles", name := "differs", desc := "(II)Z" } : Jvm.MethodName)) ∈ lw_all := lw_g (lw_at lw_m1 158 rfl) rfl
theorem q175 : (Jvm.Cond.code ({ cls := "NodeTableFiles", name := "differs", desc := "(II)Z" } : Jvm.MethodName) prog_1_method_23_code (4 : Nat) (Option.some Jvm.ClassFile.FieldType.boolean)) ∈ lw_all := lw_g (lw_at lw_m1 159 rfl) rfl
theorem q177 : (Jvm.Cond.instanceMethod ({ cls := "NodeTableFiles", name := "digest", desc := "()I" } : Jvm.MethodName)) ∈ lw_all := lw_g (lw_at lw_m1 161 rfl) rfl
theorem q178 : (Jvm.Cond.selects "NodeTableFiles" ({ cls := "NodeTableFiles", name := "digest", desc := "()I" } : Jvm.MethodName) ({ cls := "NodeTableFiles", name := "digest", desc := "()I" } : Jvm.MethodName)) ∈ lw_all := lw_g (lw_at lw_m1 162 rfl) rfl
theorem q179 : (Jvm.Cond.code ({ cls := "NodeTableFiles", name := "digest", desc := "()I" } : Jvm.MethodName) prog_1_method_25_code (5 : Nat) (Option.some Jvm.ClassFile.FieldType.int)) ∈ lw_all := lw_g (lw_at lw_m1 163 rfl) rfl
theorem in_X0 : ∀ w ∈ wsX00, w ∈ lw_all := lw_in wsX00 [69, 71, 73, 75, 77, 79, 81, 83, 85, 87, 89, 91, 93, 95, 97, 99, 101, 103] (by decide +kernel) (by decide +kernel)

/-! NodeTableFilesModel -/
def RX1 : String := "NodeTableFilesModel"
def TX1 : u_T := fun k => match k with
  | 0 => ("NodeTableFilesModel", "there", "[Z", true)
  | 1 => ("NodeTableFilesModel", "sizes", "[I", true)
  | 2 => ("NodeTableFilesModel", "words", "[I", true)
  | _ => ("NodeTableFilesModel", "young", "[Z", true)
def tyX1 : Nat → FieldType := fun k => match k with
  | 0 => .array .boolean
  | 1 => .array .int
  | 2 => .array .int
  | _ => .array .boolean
abbrev wsX10 : List Cond := u_ws RX1 TX1 4
theorem nmX1 : ∀ a, a < 4 → ∀ b, b < 4 → a ≠ b → (TX1 a).2.1 ≠ (TX1 b).2.1 := by decide +kernel
theorem tyX1_ok : ∀ k, k < 4 → parseFieldDescriptor (TX1 k).2.2.1 = some (tyX1 k) := by decide +kernel
abbrev cX1_init : ByteArray := prog_3_method_1_code
def yX1_init : MethodName := ⟨RX1, "<init>", "()V"⟩
abbrev cX1_create : ByteArray := prog_3_method_4_code
def yX1_create : MethodName := ⟨RX1, "create", "(I)I"⟩
abbrev cX1_isFile : ByteArray := prog_3_method_2_code
def yX1_isFile : MethodName := ⟨RX1, "isFile", "(I)Z"⟩
abbrev cX1_remove : ByteArray := prog_3_method_5_code
def yX1_remove : MethodName := ⟨RX1, "remove", "(I)I"⟩
abbrev cX1_test : ByteArray := prog_3_method_3_code
def yX1_test : MethodName := ⟨RX1, "test", "(I)I"⟩
abbrev cX1_write : ByteArray := prog_3_method_6_code
def yX1_write : MethodName := ⟨RX1, "write", "(III)I"⟩
abbrev cX1_truncate : ByteArray := prog_3_method_7_code
def yX1_truncate : MethodName := ⟨RX1, "truncate", "(II)I"⟩
abbrev cX1_copy : ByteArray := prog_3_method_9_code
def yX1_copy : MethodName := ⟨RX1, "copy", "(II)I"⟩
abbrev cX1_copyContent : ByteArray := prog_3_method_8_code
def yX1_copyContent : MethodName := ⟨RX1, "copyContent", "(II)V"⟩
abbrev cX1_fsync : ByteArray := prog_3_method_11_code
def yX1_fsync : MethodName := ⟨RX1, "fsync", "(I)I"⟩
abbrev cX1_sync : ByteArray := prog_3_method_12_code
def yX1_sync : MethodName := ⟨RX1, "sync", "()I"⟩
abbrev cX1_count : ByteArray := prog_3_method_10_code
def yX1_count : MethodName := ⟨RX1, "count", "()I"⟩
abbrev cX1_crash : ByteArray := prog_3_method_13_code
def yX1_crash : MethodName := ⟨RX1, "crash", "()I"⟩
abbrev cX1_exists : ByteArray := prog_3_method_14_code
def yX1_exists : MethodName := ⟨RX1, "exists", "(I)Z"⟩
abbrev cX1_size : ByteArray := prog_3_method_15_code
def yX1_size : MethodName := ⟨RX1, "size", "(I)I"⟩
abbrev cX1_read : ByteArray := prog_3_method_16_code
def yX1_read : MethodName := ⟨RX1, "read", "(II)I"⟩
abbrev cX1_uns : ByteArray := prog_3_method_18_code
def yX1_uns : MethodName := y_of (tables_1_2.getD 5 Cond.tt)
abbrev cX1_differs : ByteArray := prog_3_method_17_code
def yX1_differs : MethodName := ⟨RX1, "differs", "(I)Z"⟩
abbrev cX1_digest : ByteArray := prog_3_method_19_code
def yX1_digest : MethodName := ⟨RX1, "digest", "()I"⟩
theorem q18 : (Jvm.Cond.initialized "NodeTableFilesModel") ∈ lw_all := lw_g (lw_at lw_m1 2 rfl) rfl
theorem q181 : (Jvm.Cond.instantiable "NodeTableFilesModel" (4 : Nat)) ∈ lw_all := lw_g (lw_at lw_m1 165 rfl) rfl
theorem q183 : (Jvm.Cond.instanceMethod ({ cls := "NodeTableFilesModel", name := "<init>", desc := "()V" } : Jvm.MethodName)) ∈ lw_all := lw_g (lw_at lw_m1 167 rfl) rfl
theorem q184 : (Jvm.Cond.code ({ cls := "NodeTableFilesModel", name := "<init>", desc := "()V" } : Jvm.MethodName) prog_3_method_1_code (1 : Nat) (Option.none : Option Jvm.ClassFile.FieldType)) ∈ lw_all := lw_g (lw_at lw_m1 168 rfl) rfl
theorem q185 : (Jvm.Cond.methodLink "NodeTableFilesModel" (1 : Nat) ({ cls := "java/lang/Object", name := "<init>", desc := "()V" } : Jvm.MethodName)) ∈ lw_all := lw_g (lw_at lw_m1 169 rfl) rfl
theorem q186 : (Jvm.Cond.fieldLink "NodeTableFilesModel" (7 : Nat) "NodeTableFilesModel" "there" "[Z") ∈ lw_all := lw_g (lw_at lw_m1 170 rfl) rfl
theorem q187 : (Jvm.Cond.fieldLink "NodeTableFilesModel" (13 : Nat) "NodeTableFilesModel" "sizes" "[I") ∈ lw_all := lw_g (lw_at lw_m1 171 rfl) rfl
theorem q188 : (Jvm.Cond.fieldLink "NodeTableFilesModel" (17 : Nat) "NodeTableFilesModel" "words" "[I") ∈ lw_all := lw_g (lw_at lw_m1 172 rfl) rfl
theorem q189 : (Jvm.Cond.fieldLink "NodeTableFilesModel" (20 : Nat) "NodeTableFilesModel" "young" "[Z") ∈ lw_all := lw_g (lw_at lw_m1 173 rfl) rfl
theorem q190 : (Jvm.Cond.laysFinal "NodeTableFilesModel" "NodeTableFilesModel" "there" "[Z") ∈ lw_all := lw_g (lw_at lw_m1 174 rfl) rfl
theorem q191 : (Jvm.Cond.soleField "NodeTableFilesModel" "there") ∈ lw_all := lw_g (lw_at lw_m1 175 rfl) rfl
theorem q192 : (Jvm.Cond.laysFinal "NodeTableFilesModel" "NodeTableFilesModel" "sizes" "[I") ∈ lw_all := lw_g (lw_at lw_m1 176 rfl) rfl
theorem q193 : (Jvm.Cond.soleField "NodeTableFilesModel" "sizes") ∈ lw_all := lw_g (lw_at lw_m1 177 rfl) rfl
theorem q194 : (Jvm.Cond.laysFinal "NodeTableFilesModel" "NodeTableFilesModel" "words" "[I") ∈ lw_all := lw_g (lw_at lw_m1 178 rfl) rfl
theorem q195 : (Jvm.Cond.soleField "NodeTableFilesModel" "words") ∈ lw_all := lw_g (lw_at lw_m1 179 rfl) rfl
theorem q196 : (Jvm.Cond.laysFinal "NodeTableFilesModel" "NodeTableFilesModel" "young" "[Z") ∈ lw_all := lw_g (lw_at lw_m1 180 rfl) rfl
theorem q197 : (Jvm.Cond.soleField "NodeTableFilesModel" "young") ∈ lw_all := lw_g (lw_at lw_m1 181 rfl) rfl
theorem q198 : (Jvm.Cond.superclass "NodeTableFilesModel" "java/lang/Object") ∈ lw_all := lw_g (lw_at lw_m1 182 rfl) rfl
theorem q200 : (Jvm.Cond.instanceMethod ({ cls := "NodeTableFilesModel", name := "create", desc := "(I)I" } : Jvm.MethodName)) ∈ lw_all := lw_g (lw_at lw_m1 184 rfl) rfl
theorem q201 : (Jvm.Cond.selects "NodeTableFilesModel" ({ cls := "NodeTableFilesModel", name := "create", desc := "(I)I" } : Jvm.MethodName) ({ cls := "NodeTableFilesModel", name := "create", desc := "(I)I" } : Jvm.MethodName)) ∈ lw_all := lw_g (lw_at lw_m1 185 rfl) rfl
theorem q202 : (Jvm.Cond.code ({ cls := "NodeTableFilesModel", name := "create", desc := "(I)I" } : Jvm.MethodName) prog_3_method_4_code (2 : Nat) (Option.some Jvm.ClassFile.FieldType.int)) ∈ lw_all := lw_g (lw_at lw_m1 186 rfl) rfl
theorem q203 : (Jvm.Cond.methodLink "NodeTableFilesModel" (23 : Nat) ({ cls := "NodeTableFilesModel", name := "isFile", desc := "(I)Z" } : Jvm.MethodName)) ∈ lw_all := lw_g (lw_at lw_m1 187 rfl) rfl
theorem q204 : (Jvm.Cond.privateMethod ({ cls := "NodeTableFilesModel", name := "isFile", desc := "(I)Z" } : Jvm.MethodName)) ∈ lw_tbl := lw_at lw_m1 188 rfl
theorem q205 : (Jvm.Cond.instanceMethod ({ cls := "NodeTableFilesModel", name := "isFile", desc := "(I)Z" } : Jvm.MethodName)) ∈ lw_all := lw_g (lw_at lw_m1 189 rfl) rfl
theorem q206 : (Jvm.Cond.code ({ cls := "NodeTableFilesModel", name := "isFile", desc := "(I)Z" } : Jvm.MethodName) prog_3_method_2_code (2 : Nat) (Option.some Jvm.ClassFile.FieldType.boolean)) ∈ lw_all := lw_g (lw_at lw_m1 190 rfl) rfl
theorem q208 : (Jvm.Cond.instanceMethod ({ cls := "NodeTableFilesModel", name := "remove", desc := "(I)I" } : Jvm.MethodName)) ∈ lw_all := lw_g (lw_at lw_m1 192 rfl) rfl
theorem q209 : (Jvm.Cond.selects "NodeTableFilesModel" ({ cls := "NodeTableFilesModel", name := "remove", desc := "(I)I" } : Jvm.MethodName) ({ cls := "NodeTableFilesModel", name := "remove", desc := "(I)I" } : Jvm.MethodName)) ∈ lw_all := lw_g (lw_at lw_m1 193 rfl) rfl
theorem q210 : (Jvm.Cond.code ({ cls := "NodeTableFilesModel", name := "remove", desc := "(I)I" } : Jvm.MethodName) prog_3_method_5_code (3 : Nat) (Option.some Jvm.ClassFile.FieldType.int)) ∈ lw_all := lw_g (lw_at lw_m1 194 rfl) rfl
theorem q211 : (Jvm.Cond.methodLink "NodeTableFilesModel" (27 : Nat) ({ cls := "NodeTableFilesModel", name := "test", desc := "(I)I" } : Jvm.MethodName)) ∈ lw_all := lw_g (lw_at lw_m1 195 rfl) rfl
theorem q212 : (Jvm.Cond.privateMethod ({ cls := "NodeTableFilesModel", name := "test", desc := "(I)I" } : Jvm.MethodName)) ∈ lw_tbl := lw_at lw_m1 196 rfl
theorem q213 : (Jvm.Cond.instanceMethod ({ cls := "NodeTableFilesModel", name := "test", desc := "(I)I" } : Jvm.MethodName)) ∈ lw_all := lw_g (lw_at lw_m1 197 rfl) rfl
theorem q214 : (Jvm.Cond.code ({ cls := "NodeTableFilesModel", name := "test", desc := "(I)I" } : Jvm.MethodName) prog_3_method_3_code (2 : Nat) (Option.some Jvm.ClassFile.FieldType.int)) ∈ lw_all := lw_g (lw_at lw_m1 198 rfl) rfl
theorem q216 : (Jvm.Cond.instanceMethod ({ cls := "NodeTableFilesModel", name := "write", desc := "(III)I" } : Jvm.MethodName)) ∈ lw_all := lw_g (lw_at lw_m1 200 rfl) rfl
theorem q217 : (Jvm.Cond.selects "NodeTableFilesModel" ({ cls := "NodeTableFilesModel", name := "write", desc := "(III)I" } : Jvm.MethodName) ({ cls := "NodeTableFilesModel", name := "write", desc := "(III)I" } : Jvm.MethodName)) ∈ lw_all := lw_g (lw_at lw_m1 201 rfl) rfl
theorem q218 : (Jvm.Cond.code ({ cls := "NodeTableFilesModel", name := "write", desc := "(III)I" } : Jvm.MethodName) prog_3_method_6_code (5 : Nat) (Option.some Jvm.ClassFile.FieldType.int)) ∈ lw_all := lw_g (lw_at lw_m1 202 rfl) rfl
theorem q220 : (Jvm.Cond.instanceMethod ({ cls := "NodeTableFilesModel", name := "truncate", desc := "(II)I" } : Jvm.MethodName)) ∈ lw_all := lw_g (lw_at lw_m1 204 rfl) rfl
theorem q221 : (Jvm.Cond.selects "NodeTableFilesModel" ({ cls := "NodeTableFilesModel", name := "truncate", desc := "(II)I" } : Jvm.MethodName) ({ cls := "NodeTableFilesModel", name := "truncate", desc := "(II)I" } : Jvm.MethodName)) ∈ lw_all := lw_g (lw_at lw_m1 205 rfl) rfl
theorem q222 : (Jvm.Cond.code ({ cls := "NodeTableFilesModel", name := "truncate", desc := "(II)I" } : Jvm.MethodName) prog_3_method_7_code (5 : Nat) (Option.some Jvm.ClassFile.FieldType.int)) ∈ lw_all := lw_g (lw_at lw_m1 206 rfl) rfl
theorem q224 : (Jvm.Cond.instanceMethod ({ cls := "NodeTableFilesModel", name := "copy", desc := "(II)I" } : Jvm.MethodName)) ∈ lw_all := lw_g (lw_at lw_m1 208 rfl) rfl
theorem q225 : (Jvm.Cond.selects "NodeTableFilesModel" ({ cls := "NodeTableFilesModel", name := "copy", desc := "(II)I" } : Jvm.MethodName) ({ cls := "NodeTableFilesModel", name := "copy", desc := "(II)I" } : Jvm.MethodName)) ∈ lw_all := lw_g (lw_at lw_m1 209 rfl) rfl
theorem q226 : (Jvm.Cond.code ({ cls := "NodeTableFilesModel", name := "copy", desc := "(II)I" } : Jvm.MethodName) prog_3_method_9_code (3 : Nat) (Option.some Jvm.ClassFile.FieldType.int)) ∈ lw_all := lw_g (lw_at lw_m1 210 rfl) rfl
theorem q227 : (Jvm.Cond.methodLink "NodeTableFilesModel" (31 : Nat) ({ cls := "NodeTableFilesModel", name := "copyContent", desc := "(II)V" } : Jvm.MethodName)) ∈ lw_all := lw_g (lw_at lw_m1 211 rfl) rfl
theorem q228 : (Jvm.Cond.privateMethod ({ cls := "NodeTableFilesModel", name := "copyContent", desc := "(II)V" } : Jvm.MethodName)) ∈ lw_tbl := lw_at lw_m1 212 rfl
theorem q229 : (Jvm.Cond.instanceMethod ({ cls := "NodeTableFilesModel", name := "copyContent", desc := "(II)V" } : Jvm.MethodName)) ∈ lw_all := lw_g (lw_at lw_m1 213 rfl) rfl
theorem q230 : (Jvm.Cond.code ({ cls := "NodeTableFilesModel", name := "copyContent", desc := "(II)V" } : Jvm.MethodName) prog_3_method_8_code (4 : Nat) (Option.none : Option Jvm.ClassFile.FieldType)) ∈ lw_all := lw_g (lw_at lw_m1 214 rfl) rfl
theorem q232 : (Jvm.Cond.instanceMethod ({ cls := "NodeTableFilesModel", name := "fsync", desc := "(I)I" } : Jvm.MethodName)) ∈ lw_all := lw_g (lw_at lw_m1 216 rfl) rfl
theorem q233 : (Jvm.Cond.selects "NodeTableFilesModel" ({ cls := "NodeTableFilesModel", name := "fsync", desc := "(I)I" } : Jvm.MethodName) ({ cls := "NodeTableFilesModel", name := "fsync", desc := "(I)I" } : Jvm.MethodName)) ∈ lw_all := lw_g (lw_at lw_m1 217 rfl) rfl
theorem q234 : (Jvm.Cond.code ({ cls := "NodeTableFilesModel", name := "fsync", desc := "(I)I" } : Jvm.MethodName) prog_3_method_11_code (3 : Nat) (Option.some Jvm.ClassFile.FieldType.int)) ∈ lw_all := lw_g (lw_at lw_m1 218 rfl) rfl
theorem q235 : (Jvm.Cond.methodLink "NodeTableFilesModel" (35 : Nat) ({ cls := "NodeTableFilesModel", name := "sync", desc := "()I" } : Jvm.MethodName)) ∈ lw_all := lw_g (lw_at lw_m1 219 rfl) rfl
theorem q236 : (Jvm.Cond.instanceMethod ({ cls := "NodeTableFilesModel", name := "sync", desc := "()I" } : Jvm.MethodName)) ∈ lw_all := lw_g (lw_at lw_m1 220 rfl) rfl
theorem q237 : (Jvm.Cond.selects "NodeTableFilesModel" ({ cls := "NodeTableFilesModel", name := "sync", desc := "()I" } : Jvm.MethodName) ({ cls := "NodeTableFilesModel", name := "sync", desc := "()I" } : Jvm.MethodName)) ∈ lw_all := lw_g (lw_at lw_m1 221 rfl) rfl
theorem q238 : (Jvm.Cond.code ({ cls := "NodeTableFilesModel", name := "sync", desc := "()I" } : Jvm.MethodName) prog_3_method_12_code (2 : Nat) (Option.some Jvm.ClassFile.FieldType.int)) ∈ lw_all := lw_g (lw_at lw_m1 222 rfl) rfl
theorem q239 : (Jvm.Cond.methodLink "NodeTableFilesModel" (39 : Nat) ({ cls := "NodeTableFilesModel", name := "count", desc := "()I" } : Jvm.MethodName)) ∈ lw_all := lw_g (lw_at lw_m1 223 rfl) rfl
theorem q240 : (Jvm.Cond.privateMethod ({ cls := "NodeTableFilesModel", name := "count", desc := "()I" } : Jvm.MethodName)) ∈ lw_tbl := lw_at lw_m1 224 rfl
theorem q241 : (Jvm.Cond.instanceMethod ({ cls := "NodeTableFilesModel", name := "count", desc := "()I" } : Jvm.MethodName)) ∈ lw_all := lw_g (lw_at lw_m1 225 rfl) rfl
theorem q242 : (Jvm.Cond.code ({ cls := "NodeTableFilesModel", name := "count", desc := "()I" } : Jvm.MethodName) prog_3_method_10_code (3 : Nat) (Option.some Jvm.ClassFile.FieldType.int)) ∈ lw_all := lw_g (lw_at lw_m1 226 rfl) rfl
theorem q245 : (Jvm.Cond.instanceMethod ({ cls := "NodeTableFilesModel", name := "crash", desc := "()I" } : Jvm.MethodName)) ∈ lw_all := lw_g (lw_at lw_m1 229 rfl) rfl
theorem q246 : (Jvm.Cond.selects "NodeTableFilesModel" ({ cls := "NodeTableFilesModel", name := "crash", desc := "()I" } : Jvm.MethodName) ({ cls := "NodeTableFilesModel", name := "crash", desc := "()I" } : Jvm.MethodName)) ∈ lw_all := lw_g (lw_at lw_m1 230 rfl) rfl
theorem q247 : (Jvm.Cond.code ({ cls := "NodeTableFilesModel", name := "crash", desc := "()I" } : Jvm.MethodName) prog_3_method_13_code (2 : Nat) (Option.some Jvm.ClassFile.FieldType.int)) ∈ lw_all := lw_g (lw_at lw_m1 231 rfl) rfl
theorem q249 : (Jvm.Cond.instanceMethod ({ cls := "NodeTableFilesModel", name := "exists", desc := "(I)Z" } : Jvm.MethodName)) ∈ lw_all := lw_g (lw_at lw_m1 233 rfl) rfl
theorem q250 : (Jvm.Cond.selects "NodeTableFilesModel" ({ cls := "NodeTableFilesModel", name := "exists", desc := "(I)Z" } : Jvm.MethodName) ({ cls := "NodeTableFilesModel", name := "exists", desc := "(I)Z" } : Jvm.MethodName)) ∈ lw_all := lw_g (lw_at lw_m1 234 rfl) rfl
theorem q251 : (Jvm.Cond.code ({ cls := "NodeTableFilesModel", name := "exists", desc := "(I)Z" } : Jvm.MethodName) prog_3_method_14_code (2 : Nat) (Option.some Jvm.ClassFile.FieldType.boolean)) ∈ lw_all := lw_g (lw_at lw_m1 235 rfl) rfl
theorem q253 : (Jvm.Cond.instanceMethod ({ cls := "NodeTableFilesModel", name := "size", desc := "(I)I" } : Jvm.MethodName)) ∈ lw_all := lw_g (lw_at lw_m1 237 rfl) rfl
theorem q254 : (Jvm.Cond.selects "NodeTableFilesModel" ({ cls := "NodeTableFilesModel", name := "size", desc := "(I)I" } : Jvm.MethodName) ({ cls := "NodeTableFilesModel", name := "size", desc := "(I)I" } : Jvm.MethodName)) ∈ lw_all := lw_g (lw_at lw_m1 238 rfl) rfl
theorem q255 : (Jvm.Cond.code ({ cls := "NodeTableFilesModel", name := "size", desc := "(I)I" } : Jvm.MethodName) prog_3_method_15_code (3 : Nat) (Option.some Jvm.ClassFile.FieldType.int)) ∈ lw_all := lw_g (lw_at lw_m1 239 rfl) rfl
theorem q257 : (Jvm.Cond.instanceMethod ({ cls := "NodeTableFilesModel", name := "read", desc := "(II)I" } : Jvm.MethodName)) ∈ lw_all := lw_g (lw_at lw_m2 1 rfl) rfl
theorem q258 : (Jvm.Cond.selects "NodeTableFilesModel" ({ cls := "NodeTableFilesModel", name := "read", desc := "(II)I" } : Jvm.MethodName) ({ cls := "NodeTableFilesModel", name := "read", desc := "(II)I" } : Jvm.MethodName)) ∈ lw_all := lw_g (lw_at lw_m2 2 rfl) rfl
theorem q259 : (Jvm.Cond.code ({ cls := "NodeTableFilesModel", name := "read", desc := "(II)I" } : Jvm.MethodName) prog_3_method_16_code (3 : Nat) (Option.some Jvm.ClassFile.FieldType.int)) ∈ lw_all := lw_g (lw_at lw_m2 3 rfl) rfl
theorem q260 : (Jvm.Cond.methodLink "NodeTableFilesModel" (42 : Nat) ({ cls := "NodeTableFilesModel", name := "exists", desc := "(I)Z" } : Jvm.MethodName)) ∈ lw_all := lw_g (lw_at lw_m2 4 rfl) rfl
theorem q262 : (Jvm.Cond.instanceMethod yX1_uns) ∈ lw_all := lw_g (lw_at lw_m2 6 rfl) rfl
theorem q263 : (Jvm.Cond.selects "NodeTableFilesModel" yX1_uns yX1_uns) ∈ lw_all := lw_g (lw_at lw_m2 7 rfl) rfl
theorem q264 : (Jvm.Cond.code yX1_uns prog_3_method_18_code (3 : Nat) (Option.some Jvm.ClassFile.FieldType.int)) ∈ lw_all := lw_g (lw_at lw_m2 8 rfl) rfl
theorem q265 : (Jvm.Cond.methodLink "NodeTableFilesModel" (45 : Nat) ({ cls := "NodeTableFilesModel", name := "differs", desc := "(I)Z" } : Jvm.MethodName)) ∈ lw_all := lw_g (lw_at lw_m2 9 rfl) rfl
theorem q266 : (Jvm.Cond.privateMethod ({ cls := "NodeTableFilesModel", name := "differs", desc := "(I)Z" } : Jvm.MethodName)) ∈ lw_tbl := lw_at lw_m2 10 rfl
theorem q267 : (Jvm.Cond.instanceMethod ({ cls := "NodeTableFilesModel", name := "differs", desc := "(I)Z" } : Jvm.MethodName)) ∈ lw_all := lw_g (lw_at lw_m2 11 rfl) rfl
theorem q268 : (Jvm.Cond.code ({ cls := "NodeTableFilesModel", name := "differs", desc := "(I)Z" } : Jvm.MethodName) prog_3_method_17_code (3 : Nat) (Option.some Jvm.ClassFile.FieldType.boolean)) ∈ lw_all := lw_g (lw_at lw_m2 12 rfl) rfl
theorem q270 : (Jvm.Cond.instanceMethod ({ cls := "NodeTableFilesModel", name := "digest", desc := "()I" } : Jvm.MethodName)) ∈ lw_all := lw_g (lw_at lw_m2 14 rfl) rfl
theorem q271 : (Jvm.Cond.selects "NodeTableFilesModel" ({ cls := "NodeTableFilesModel", name := "digest", desc := "()I" } : Jvm.MethodName) ({ cls := "NodeTableFilesModel", name := "digest", desc := "()I" } : Jvm.MethodName)) ∈ lw_all := lw_g (lw_at lw_m2 15 rfl) rfl
theorem q272 : (Jvm.Cond.code ({ cls := "NodeTableFilesModel", name := "digest", desc := "()I" } : Jvm.MethodName) prog_3_method_19_code (4 : Nat) (Option.some Jvm.ClassFile.FieldType.int)) ∈ lw_all := lw_g (lw_at lw_m2 16 rfl) rfl
theorem q273 : (Jvm.Cond.methodLink "NodeTableFilesModel" (48 : Nat) ({ cls := "NodeTableFilesModel", name := "read", desc := "(II)I" } : Jvm.MethodName)) ∈ lw_all := lw_g (lw_at lw_m2 17 rfl) rfl
theorem in_X1 : ∀ w ∈ wsX10, w ∈ lw_all := lw_in wsX10 [190, 192, 194, 196] (by decide +kernel) (by decide +kernel)

theorem q16 : (Jvm.Cond.initialized "NodeTableFilesLaw") ∈ lw_all := lw_g (lw_at lw_m1 0 rfl) rfl
theorem q19 : (Jvm.Cond.classLink "NodeTableFilesLaw" (7 : Nat) "NodeTableFiles") ∈ lw_all := lw_g (lw_at lw_m1 3 rfl) rfl
theorem q21 : (Jvm.Cond.methodLink "NodeTableFilesLaw" (9 : Nat) ({ cls := "NodeTableFiles", name := "<init>", desc := "()V" } : Jvm.MethodName)) ∈ lw_all := lw_g (lw_at lw_m1 5 rfl) rfl
theorem q108 : (Jvm.Cond.methodLink "NodeTableFilesLaw" (13 : Nat) ({ cls := "NodeTableFiles", name := "create", desc := "(I)I" } : Jvm.MethodName)) ∈ lw_all := lw_g (lw_at lw_m1 92 rfl) rfl
theorem q120 : (Jvm.Cond.methodLink "NodeTableFilesLaw" (18 : Nat) ({ cls := "NodeTableFiles", name := "remove", desc := "(I)I" } : Jvm.MethodName)) ∈ lw_all := lw_g (lw_at lw_m1 104 rfl) rfl
theorem q124 : (Jvm.Cond.methodLink "NodeTableFilesLaw" (22 : Nat) ({ cls := "NodeTableFiles", name := "write", desc := "(III)I" } : Jvm.MethodName)) ∈ lw_all := lw_g (lw_at lw_m1 108 rfl) rfl
theorem q128 : (Jvm.Cond.methodLink "NodeTableFilesLaw" (27 : Nat) ({ cls := "NodeTableFiles", name := "truncate", desc := "(II)I" } : Jvm.MethodName)) ∈ lw_all := lw_g (lw_at lw_m1 112 rfl) rfl
theorem q132 : (Jvm.Cond.methodLink "NodeTableFilesLaw" (32 : Nat) ({ cls := "NodeTableFiles", name := "copy", desc := "(II)I" } : Jvm.MethodName)) ∈ lw_all := lw_g (lw_at lw_m1 116 rfl) rfl
theorem q136 : (Jvm.Cond.methodLink "NodeTableFilesLaw" (36 : Nat) ({ cls := "NodeTableFiles", name := "fsync", desc := "(I)I" } : Jvm.MethodName)) ∈ lw_all := lw_g (lw_at lw_m1 120 rfl) rfl
theorem q140 : (Jvm.Cond.methodLink "NodeTableFilesLaw" (40 : Nat) ({ cls := "NodeTableFiles", name := "sync", desc := "()I" } : Jvm.MethodName)) ∈ lw_all := lw_g (lw_at lw_m1 124 rfl) rfl
theorem q148 : (Jvm.Cond.methodLink "NodeTableFilesLaw" (45 : Nat) ({ cls := "NodeTableFiles", name := "crash", desc := "()I" } : Jvm.MethodName)) ∈ lw_all := lw_g (lw_at lw_m1 132 rfl) rfl
theorem q156 : (Jvm.Cond.methodLink "NodeTableFilesLaw" (49 : Nat) ({ cls := "NodeTableFiles", name := "exists", desc := "(I)Z" } : Jvm.MethodName)) ∈ lw_all := lw_g (lw_at lw_m1 140 rfl) rfl
theorem q160 : (Jvm.Cond.methodLink "NodeTableFilesLaw" (54 : Nat) ({ cls := "NodeTableFiles", name := "size", desc := "(I)I" } : Jvm.MethodName)) ∈ lw_all := lw_g (lw_at lw_m1 144 rfl) rfl
theorem q164 : (Jvm.Cond.methodLink "NodeTableFilesLaw" (58 : Nat) ({ cls := "NodeTableFiles", name := "read", desc := "(II)I" } : Jvm.MethodName)) ∈ lw_all := lw_g (lw_at lw_m1 148 rfl) rfl
theorem q168 : (Jvm.Cond.methodLink "NodeTableFilesLaw" (62 : Nat) yX0_uns) ∈ lw_all := lw_g (lw_at lw_m1 152 rfl) rfl
theorem q176 : (Jvm.Cond.methodLink "NodeTableFilesLaw" (66 : Nat) ({ cls := "NodeTableFiles", name := "digest", desc := "()I" } : Jvm.MethodName)) ∈ lw_all := lw_g (lw_at lw_m1 160 rfl) rfl
theorem q180 : (Jvm.Cond.classLink "NodeTableFilesLaw" (10 : Nat) "NodeTableFilesModel") ∈ lw_all := lw_g (lw_at lw_m1 164 rfl) rfl
theorem q182 : (Jvm.Cond.methodLink "NodeTableFilesLaw" (12 : Nat) ({ cls := "NodeTableFilesModel", name := "<init>", desc := "()V" } : Jvm.MethodName)) ∈ lw_all := lw_g (lw_at lw_m1 166 rfl) rfl
theorem q199 : (Jvm.Cond.methodLink "NodeTableFilesLaw" (17 : Nat) ({ cls := "NodeTableFilesModel", name := "create", desc := "(I)I" } : Jvm.MethodName)) ∈ lw_all := lw_g (lw_at lw_m1 183 rfl) rfl
theorem q207 : (Jvm.Cond.methodLink "NodeTableFilesLaw" (21 : Nat) ({ cls := "NodeTableFilesModel", name := "remove", desc := "(I)I" } : Jvm.MethodName)) ∈ lw_all := lw_g (lw_at lw_m1 191 rfl) rfl
theorem q215 : (Jvm.Cond.methodLink "NodeTableFilesLaw" (26 : Nat) ({ cls := "NodeTableFilesModel", name := "write", desc := "(III)I" } : Jvm.MethodName)) ∈ lw_all := lw_g (lw_at lw_m1 199 rfl) rfl
theorem q219 : (Jvm.Cond.methodLink "NodeTableFilesLaw" (31 : Nat) ({ cls := "NodeTableFilesModel", name := "truncate", desc := "(II)I" } : Jvm.MethodName)) ∈ lw_all := lw_g (lw_at lw_m1 203 rfl) rfl
theorem q223 : (Jvm.Cond.methodLink "NodeTableFilesLaw" (35 : Nat) ({ cls := "NodeTableFilesModel", name := "copy", desc := "(II)I" } : Jvm.MethodName)) ∈ lw_all := lw_g (lw_at lw_m1 207 rfl) rfl
theorem q231 : (Jvm.Cond.methodLink "NodeTableFilesLaw" (39 : Nat) ({ cls := "NodeTableFilesModel", name := "fsync", desc := "(I)I" } : Jvm.MethodName)) ∈ lw_all := lw_g (lw_at lw_m1 215 rfl) rfl
theorem q243 : (Jvm.Cond.methodLink "NodeTableFilesLaw" (44 : Nat) ({ cls := "NodeTableFilesModel", name := "sync", desc := "()I" } : Jvm.MethodName)) ∈ lw_all := lw_g (lw_at lw_m1 227 rfl) rfl
theorem q244 : (Jvm.Cond.methodLink "NodeTableFilesLaw" (48 : Nat) ({ cls := "NodeTableFilesModel", name := "crash", desc := "()I" } : Jvm.MethodName)) ∈ lw_all := lw_g (lw_at lw_m1 228 rfl) rfl
theorem q248 : (Jvm.Cond.methodLink "NodeTableFilesLaw" (53 : Nat) ({ cls := "NodeTableFilesModel", name := "exists", desc := "(I)Z" } : Jvm.MethodName)) ∈ lw_all := lw_g (lw_at lw_m1 232 rfl) rfl
theorem q252 : (Jvm.Cond.methodLink "NodeTableFilesLaw" (57 : Nat) ({ cls := "NodeTableFilesModel", name := "size", desc := "(I)I" } : Jvm.MethodName)) ∈ lw_all := lw_g (lw_at lw_m1 236 rfl) rfl
theorem q256 : (Jvm.Cond.methodLink "NodeTableFilesLaw" (61 : Nat) ({ cls := "NodeTableFilesModel", name := "read", desc := "(II)I" } : Jvm.MethodName)) ∈ lw_all := lw_g (lw_at lw_m2 0 rfl) rfl
theorem q261 : (Jvm.Cond.methodLink "NodeTableFilesLaw" (65 : Nat) yX1_uns) ∈ lw_all := lw_g (lw_at lw_m2 5 rfl) rfl
theorem q269 : (Jvm.Cond.methodLink "NodeTableFilesLaw" (69 : Nat) ({ cls := "NodeTableFilesModel", name := "digest", desc := "()I" } : Jvm.MethodName)) ∈ lw_all := lw_g (lw_at lw_m2 13 rfl) rfl

theorem q106 : (Jvm.Cond.arrayClass Jvm.ClassFile.FieldType.int) ∈ lw_all := lw_g (lw_at lw_m1 90 rfl) rfl
theorem q107 : (Jvm.Cond.arrayClass Jvm.ClassFile.FieldType.boolean) ∈ lw_all := lw_g (lw_at lw_m1 91 rfl) rfl

/-! the law's own entry -/
abbrev cL_law : ByteArray := code
end
section
set_option maxRecDepth 100000
theorem dX0_init_0 : decode cX0_init 0 = .ok (.aload_n 0, 1) := by decide +kernel
theorem dX0_init_1 : decode cX0_init 1 = .ok (.invokespecial 1, 3) := by decide +kernel
theorem dX0_init_4 : decode cX0_init 4 = .ok (.aload_n 0, 1) := by decide +kernel
theorem dX0_init_5 : decode cX0_init 5 = .ok (.sipush 128, 3) := by decide +kernel
theorem dX0_init_8 : decode cX0_init 8 = .ok (.newarray .int, 2) := by decide +kernel
theorem dX0_init_10 : decode cX0_init 10 = .ok (.putfield 7, 3) := by decide +kernel
theorem dX0_init_13 : decode cX0_init 13 = .ok (.aload_n 0, 1) := by decide +kernel
theorem dX0_init_14 : decode cX0_init 14 = .ok (.sipush 128, 3) := by decide +kernel
theorem dX0_init_17 : decode cX0_init 17 = .ok (.newarray .int, 2) := by decide +kernel
theorem dX0_init_19 : decode cX0_init 19 = .ok (.putfield 13, 3) := by decide +kernel
theorem dX0_init_22 : decode cX0_init 22 = .ok (.aload_n 0, 1) := by decide +kernel
theorem dX0_init_23 : decode cX0_init 23 = .ok (.sipush 128, 3) := by decide +kernel
theorem dX0_init_26 : decode cX0_init 26 = .ok (.newarray .int, 2) := by decide +kernel
theorem dX0_init_28 : decode cX0_init 28 = .ok (.putfield 16, 3) := by decide +kernel
theorem dX0_init_31 : decode cX0_init 31 = .ok (.aload_n 0, 1) := by decide +kernel
theorem dX0_init_32 : decode cX0_init 32 = .ok (.sipush 512, 3) := by decide +kernel
theorem dX0_init_35 : decode cX0_init 35 = .ok (.newarray .int, 2) := by decide +kernel
theorem dX0_init_37 : decode cX0_init 37 = .ok (.putfield 19, 3) := by decide +kernel
theorem dX0_init_40 : decode cX0_init 40 = .ok (.aload_n 0, 1) := by decide +kernel
theorem dX0_init_41 : decode cX0_init 41 = .ok (.sipush 128, 3) := by decide +kernel
theorem dX0_init_44 : decode cX0_init 44 = .ok (.newarray .int, 2) := by decide +kernel
theorem dX0_init_46 : decode cX0_init 46 = .ok (.putfield 22, 3) := by decide +kernel
theorem dX0_init_49 : decode cX0_init 49 = .ok (.aload_n 0, 1) := by decide +kernel
theorem dX0_init_50 : decode cX0_init 50 = .ok (.sipush 128, 3) := by decide +kernel
theorem dX0_init_53 : decode cX0_init 53 = .ok (.newarray .int, 2) := by decide +kernel
theorem dX0_init_55 : decode cX0_init 55 = .ok (.putfield 25, 3) := by decide +kernel
theorem dX0_init_58 : decode cX0_init 58 = .ok (.aload_n 0, 1) := by decide +kernel
theorem dX0_init_59 : decode cX0_init 59 = .ok (.iconst 2, 1) := by decide +kernel
theorem dX0_init_60 : decode cX0_init 60 = .ok (.newarray .int, 2) := by decide +kernel
theorem dX0_init_62 : decode cX0_init 62 = .ok (.putfield 28, 3) := by decide +kernel
theorem dX0_init_65 : decode cX0_init 65 = .ok (.aload_n 0, 1) := by decide +kernel
theorem dX0_init_66 : decode cX0_init 66 = .ok (.iconst 2, 1) := by decide +kernel
theorem dX0_init_67 : decode cX0_init 67 = .ok (.newarray .int, 2) := by decide +kernel
theorem dX0_init_69 : decode cX0_init 69 = .ok (.putfield 31, 3) := by decide +kernel
theorem dX0_init_72 : decode cX0_init 72 = .ok (.aload_n 0, 1) := by decide +kernel
theorem dX0_init_73 : decode cX0_init 73 = .ok (.bipush 12, 2) := by decide +kernel
theorem dX0_init_75 : decode cX0_init 75 = .ok (.newarray .int, 2) := by decide +kernel
theorem dX0_init_77 : decode cX0_init 77 = .ok (.putfield 34, 3) := by decide +kernel
theorem dX0_init_80 : decode cX0_init 80 = .ok (.aload_n 0, 1) := by decide +kernel
theorem dX0_init_81 : decode cX0_init 81 = .ok (.iconst 2, 1) := by decide +kernel
theorem dX0_init_82 : decode cX0_init 82 = .ok (.newarray .int, 2) := by decide +kernel
theorem dX0_init_84 : decode cX0_init 84 = .ok (.putfield 37, 3) := by decide +kernel
theorem dX0_init_87 : decode cX0_init 87 = .ok (.aload_n 0, 1) := by decide +kernel
theorem dX0_init_88 : decode cX0_init 88 = .ok (.bipush 6, 2) := by decide +kernel
theorem dX0_init_90 : decode cX0_init 90 = .ok (.newarray .int, 2) := by decide +kernel
theorem dX0_init_92 : decode cX0_init 92 = .ok (.putfield 40, 3) := by decide +kernel
theorem dX0_init_95 : decode cX0_init 95 = .ok (.aload_n 0, 1) := by decide +kernel
theorem dX0_init_96 : decode cX0_init 96 = .ok (.bipush 6, 2) := by decide +kernel
theorem dX0_init_98 : decode cX0_init 98 = .ok (.newarray .int, 2) := by decide +kernel
theorem dX0_init_100 : decode cX0_init 100 = .ok (.putfield 43, 3) := by decide +kernel
theorem dX0_init_103 : decode cX0_init 103 = .ok (.aload_n 0, 1) := by decide +kernel
theorem dX0_init_104 : decode cX0_init 104 = .ok (.bipush 6, 2) := by decide +kernel
theorem dX0_init_106 : decode cX0_init 106 = .ok (.newarray .boolean, 2) := by decide +kernel
theorem dX0_init_108 : decode cX0_init 108 = .ok (.putfield 46, 3) := by decide +kernel
theorem dX0_init_111 : decode cX0_init 111 = .ok (.aload_n 0, 1) := by decide +kernel
theorem dX0_init_112 : decode cX0_init 112 = .ok (.sipush 128, 3) := by decide +kernel
theorem dX0_init_115 : decode cX0_init 115 = .ok (.newarray .boolean, 2) := by decide +kernel
theorem dX0_init_117 : decode cX0_init 117 = .ok (.putfield 50, 3) := by decide +kernel
theorem dX0_init_120 : decode cX0_init 120 = .ok (.iconst 0, 1) := by decide +kernel
theorem dX0_init_121 : decode cX0_init 121 = .ok (.istore_n 1, 1) := by decide +kernel
theorem dX0_init_122 : decode cX0_init 122 = .ok (.iload_n 1, 1) := by decide +kernel
theorem dX0_init_123 : decode cX0_init 123 = .ok (.sipush 128, 3) := by decide +kernel
theorem dX0_init_126 : decode cX0_init 126 = .ok (.if_icmp .ge 16, 3) := by decide +kernel
theorem dX0_init_129 : decode cX0_init 129 = .ok (.aload_n 0, 1) := by decide +kernel
theorem dX0_init_130 : decode cX0_init 130 = .ok (.getfield 22, 3) := by decide +kernel
theorem dX0_init_133 : decode cX0_init 133 = .ok (.iload_n 1, 1) := by decide +kernel
theorem dX0_init_134 : decode cX0_init 134 = .ok (.iconst (-1), 1) := by decide +kernel
theorem dX0_init_135 : decode cX0_init 135 = .ok (.iastore, 1) := by decide +kernel
theorem dX0_init_136 : decode cX0_init 136 = .ok (.iinc 1 1, 3) := by decide +kernel
theorem dX0_init_139 : decode cX0_init 139 = .ok (.goto (-17), 3) := by decide +kernel
theorem dX0_init_142 : decode cX0_init 142 = .ok (.iconst 0, 1) := by decide +kernel
theorem dX0_init_143 : decode cX0_init 143 = .ok (.istore_n 1, 1) := by decide +kernel
theorem dX0_init_144 : decode cX0_init 144 = .ok (.iload_n 1, 1) := by decide +kernel
theorem dX0_init_145 : decode cX0_init 145 = .ok (.bipush 6, 2) := by decide +kernel
theorem dX0_init_147 : decode cX0_init 147 = .ok (.if_icmp .ge 23, 3) := by decide +kernel
theorem dX0_init_150 : decode cX0_init 150 = .ok (.aload_n 0, 1) := by decide +kernel
theorem dX0_init_151 : decode cX0_init 151 = .ok (.getfield 40, 3) := by decide +kernel
theorem dX0_init_154 : decode cX0_init 154 = .ok (.iload_n 1, 1) := by decide +kernel
theorem dX0_init_155 : decode cX0_init 155 = .ok (.iconst (-1), 1) := by decide +kernel
theorem dX0_init_156 : decode cX0_init 156 = .ok (.iastore, 1) := by decide +kernel
theorem dX0_init_157 : decode cX0_init 157 = .ok (.aload_n 0, 1) := by decide +kernel
theorem dX0_init_158 : decode cX0_init 158 = .ok (.getfield 43, 3) := by decide +kernel
theorem dX0_init_161 : decode cX0_init 161 = .ok (.iload_n 1, 1) := by decide +kernel
theorem dX0_init_162 : decode cX0_init 162 = .ok (.iconst (-1), 1) := by decide +kernel
theorem dX0_init_163 : decode cX0_init 163 = .ok (.iastore, 1) := by decide +kernel
theorem dX0_init_164 : decode cX0_init 164 = .ok (.iinc 1 1, 3) := by decide +kernel
theorem dX0_init_167 : decode cX0_init 167 = .ok (.goto (-23), 3) := by decide +kernel
theorem dX0_init_170 : decode cX0_init 170 = .ok (.aload_n 0, 1) := by decide +kernel
theorem dX0_init_171 : decode cX0_init 171 = .ok (.iconst (-1), 1) := by decide +kernel
theorem dX0_init_172 : decode cX0_init 172 = .ok (.putfield 53, 3) := by decide +kernel
theorem dX0_init_175 : decode cX0_init 175 = .ok (.aload_n 0, 1) := by decide +kernel
theorem dX0_init_176 : decode cX0_init 176 = .ok (.invokevirtual 57, 3) := by decide +kernel
theorem dX0_init_179 : decode cX0_init 179 = .ok (.return_, 1) := by decide +kernel
theorem dX0_checkpoint_0 : decode cX0_checkpoint 0 = .ok (.iconst 0, 1) := by decide +kernel
theorem dX0_checkpoint_1 : decode cX0_checkpoint 1 = .ok (.istore_n 1, 1) := by decide +kernel
theorem dX0_checkpoint_2 : decode cX0_checkpoint 2 = .ok (.iload_n 1, 1) := by decide +kernel
theorem dX0_checkpoint_3 : decode cX0_checkpoint 3 = .ok (.bipush 6, 2) := by decide +kernel
theorem dX0_checkpoint_5 : decode cX0_checkpoint 5 = .ok (.if_icmp .ge 28, 3) := by decide +kernel
theorem dX0_checkpoint_8 : decode cX0_checkpoint 8 = .ok (.aload_n 0, 1) := by decide +kernel
theorem dX0_checkpoint_9 : decode cX0_checkpoint 9 = .ok (.getfield 43, 3) := by decide +kernel
theorem dX0_checkpoint_12 : decode cX0_checkpoint 12 = .ok (.iload_n 1, 1) := by decide +kernel
theorem dX0_checkpoint_13 : decode cX0_checkpoint 13 = .ok (.aload_n 0, 1) := by decide +kernel
theorem dX0_checkpoint_14 : decode cX0_checkpoint 14 = .ok (.getfield 40, 3) := by decide +kernel
theorem dX0_checkpoint_17 : decode cX0_checkpoint 17 = .ok (.iload_n 1, 1) := by decide +kernel
theorem dX0_checkpoint_18 : decode cX0_checkpoint 18 = .ok (.iaload, 1) := by decide +kernel
theorem dX0_checkpoint_19 : decode cX0_checkpoint 19 = .ok (.iastore, 1) := by decide +kernel
theorem dX0_checkpoint_20 : decode cX0_checkpoint 20 = .ok (.aload_n 0, 1) := by decide +kernel
theorem dX0_checkpoint_21 : decode cX0_checkpoint 21 = .ok (.getfield 46, 3) := by decide +kernel
theorem dX0_checkpoint_24 : decode cX0_checkpoint 24 = .ok (.iload_n 1, 1) := by decide +kernel
theorem dX0_checkpoint_25 : decode cX0_checkpoint 25 = .ok (.iconst 0, 1) := by decide +kernel
theorem dX0_checkpoint_26 : decode cX0_checkpoint 26 = .ok (.bastore, 1) := by decide +kernel
theorem dX0_checkpoint_27 : decode cX0_checkpoint 27 = .ok (.iinc 1 1, 3) := by decide +kernel
theorem dX0_checkpoint_30 : decode cX0_checkpoint 30 = .ok (.goto (-28), 3) := by decide +kernel
theorem dX0_checkpoint_33 : decode cX0_checkpoint 33 = .ok (.aload_n 0, 1) := by decide +kernel
theorem dX0_checkpoint_34 : decode cX0_checkpoint 34 = .ok (.invokevirtual 84, 3) := by decide +kernel
theorem dX0_checkpoint_37 : decode cX0_checkpoint 37 = .ok (.return_, 1) := by decide +kernel
theorem dX0_writePack_0 : decode cX0_writePack 0 = .ok (.aload_n 0, 1) := by decide +kernel
theorem dX0_writePack_1 : decode cX0_writePack 1 = .ok (.dup, 1) := by decide +kernel
theorem dX0_writePack_2 : decode cX0_writePack 2 = .ok (.getfield 64, 3) := by decide +kernel
theorem dX0_writePack_5 : decode cX0_writePack 5 = .ok (.iconst 1, 1) := by decide +kernel
theorem dX0_writePack_6 : decode cX0_writePack 6 = .ok (.iadd, 1) := by decide +kernel
theorem dX0_writePack_7 : decode cX0_writePack 7 = .ok (.putfield 64, 3) := by decide +kernel
theorem dX0_writePack_10 : decode cX0_writePack 10 = .ok (.aload_n 0, 1) := by decide +kernel
theorem dX0_writePack_11 : decode cX0_writePack 11 = .ok (.getfield 64, 3) := by decide +kernel
theorem dX0_writePack_14 : decode cX0_writePack 14 = .ok (.iconst 1, 1) := by decide +kernel
theorem dX0_writePack_15 : decode cX0_writePack 15 = .ok (.iand, 1) := by decide +kernel
theorem dX0_writePack_16 : decode cX0_writePack 16 = .ok (.istore_n 1, 1) := by decide +kernel
theorem dX0_writePack_17 : decode cX0_writePack 17 = .ok (.aload_n 0, 1) := by decide +kernel
theorem dX0_writePack_18 : decode cX0_writePack 18 = .ok (.getfield 28, 3) := by decide +kernel
theorem dX0_writePack_21 : decode cX0_writePack 21 = .ok (.iload_n 1, 1) := by decide +kernel
theorem dX0_writePack_22 : decode cX0_writePack 22 = .ok (.aload_n 0, 1) := by decide +kernel
theorem dX0_writePack_23 : decode cX0_writePack 23 = .ok (.getfield 64, 3) := by decide +kernel
theorem dX0_writePack_26 : decode cX0_writePack 26 = .ok (.iastore, 1) := by decide +kernel
theorem dX0_writePack_27 : decode cX0_writePack 27 = .ok (.iconst 0, 1) := by decide +kernel
theorem dX0_writePack_28 : decode cX0_writePack 28 = .ok (.istore_n 2, 1) := by decide +kernel
theorem dX0_writePack_29 : decode cX0_writePack 29 = .ok (.iload_n 2, 1) := by decide +kernel
theorem dX0_writePack_30 : decode cX0_writePack 30 = .ok (.bipush 6, 2) := by decide +kernel
theorem dX0_writePack_32 : decode cX0_writePack 32 = .ok (.if_icmp .ge 26, 3) := by decide +kernel
theorem dX0_writePack_35 : decode cX0_writePack 35 = .ok (.aload_n 0, 1) := by decide +kernel
theorem dX0_writePack_36 : decode cX0_writePack 36 = .ok (.getfield 34, 3) := by decide +kernel
theorem dX0_writePack_39 : decode cX0_writePack 39 = .ok (.iload_n 1, 1) := by decide +kernel
theorem dX0_writePack_40 : decode cX0_writePack 40 = .ok (.bipush 6, 2) := by decide +kernel
theorem dX0_writePack_42 : decode cX0_writePack 42 = .ok (.imul, 1) := by decide +kernel
theorem dX0_writePack_43 : decode cX0_writePack 43 = .ok (.iload_n 2, 1) := by decide +kernel
theorem dX0_writePack_44 : decode cX0_writePack 44 = .ok (.iadd, 1) := by decide +kernel
theorem dX0_writePack_45 : decode cX0_writePack 45 = .ok (.aload_n 0, 1) := by decide +kernel
theorem dX0_writePack_46 : decode cX0_writePack 46 = .ok (.getfield 43, 3) := by decide +kernel
theorem dX0_writePack_49 : decode cX0_writePack 49 = .ok (.iload_n 2, 1) := by decide +kernel
theorem dX0_writePack_50 : decode cX0_writePack 50 = .ok (.iaload, 1) := by decide +kernel
theorem dX0_writePack_51 : decode cX0_writePack 51 = .ok (.iastore, 1) := by decide +kernel
theorem dX0_writePack_52 : decode cX0_writePack 52 = .ok (.iinc 2 1, 3) := by decide +kernel
theorem dX0_writePack_55 : decode cX0_writePack 55 = .ok (.goto (-26), 3) := by decide +kernel
theorem dX0_writePack_58 : decode cX0_writePack 58 = .ok (.aload_n 0, 1) := by decide +kernel
theorem dX0_writePack_59 : decode cX0_writePack 59 = .ok (.iconst 0, 1) := by decide +kernel
theorem dX0_writePack_60 : decode cX0_writePack 60 = .ok (.putfield 67, 3) := by decide +kernel
theorem dX0_writePack_63 : decode cX0_writePack 63 = .ok (.aload_n 0, 1) := by decide +kernel
theorem dX0_writePack_64 : decode cX0_writePack 64 = .ok (.iconst (-1), 1) := by decide +kernel
theorem dX0_writePack_65 : decode cX0_writePack 65 = .ok (.putfield 53, 3) := by decide +kernel
theorem dX0_writePack_68 : decode cX0_writePack 68 = .ok (.aload_n 0, 1) := by decide +kernel
theorem dX0_writePack_69 : decode cX0_writePack 69 = .ok (.aload_n 0, 1) := by decide +kernel
theorem dX0_writePack_70 : decode cX0_writePack 70 = .ok (.invokevirtual 80, 3) := by decide +kernel
theorem dX0_writePack_73 : decode cX0_writePack 73 = .ok (.putfield 53, 3) := by decide +kernel
theorem dX0_writePack_76 : decode cX0_writePack 76 = .ok (.aload_n 0, 1) := by decide +kernel
theorem dX0_writePack_77 : decode cX0_writePack 77 = .ok (.getfield 37, 3) := by decide +kernel
theorem dX0_writePack_80 : decode cX0_writePack 80 = .ok (.iload_n 1, 1) := by decide +kernel
theorem dX0_writePack_81 : decode cX0_writePack 81 = .ok (.aload_n 0, 1) := by decide +kernel
theorem dX0_writePack_82 : decode cX0_writePack 82 = .ok (.getfield 53, 3) := by decide +kernel
theorem dX0_writePack_85 : decode cX0_writePack 85 = .ok (.iastore, 1) := by decide +kernel
theorem dX0_writePack_86 : decode cX0_writePack 86 = .ok (.aload_n 0, 1) := by decide +kernel
theorem dX0_writePack_87 : decode cX0_writePack 87 = .ok (.getfield 31, 3) := by decide +kernel
theorem dX0_writePack_90 : decode cX0_writePack 90 = .ok (.iload_n 1, 1) := by decide +kernel
theorem dX0_writePack_91 : decode cX0_writePack 91 = .ok (.aload_n 0, 1) := by decide +kernel
theorem dX0_writePack_92 : decode cX0_writePack 92 = .ok (.getfield 64, 3) := by decide +kernel
theorem dX0_writePack_95 : decode cX0_writePack 95 = .ok (.iastore, 1) := by decide +kernel
theorem dX0_writePack_96 : decode cX0_writePack 96 = .ok (.return_, 1) := by decide +kernel
theorem dX0_fresh_0 : decode cX0_fresh 0 = .ok (.aload_n 0, 1) := by decide +kernel
theorem dX0_fresh_1 : decode cX0_fresh 1 = .ok (.invokevirtual 70, 3) := by decide +kernel
theorem dX0_fresh_4 : decode cX0_fresh 4 = .ok (.aload_n 0, 1) := by decide +kernel
theorem dX0_fresh_5 : decode cX0_fresh 5 = .ok (.aload_n 0, 1) := by decide +kernel
theorem dX0_fresh_6 : decode cX0_fresh 6 = .ok (.getfield 73, 3) := by decide +kernel
theorem dX0_fresh_9 : decode cX0_fresh 9 = .ok (.invokevirtual 76, 3) := by decide +kernel
theorem dX0_fresh_12 : decode cX0_fresh 12 = .ok (.istore_n 1, 1) := by decide +kernel
theorem dX0_fresh_13 : decode cX0_fresh 13 = .ok (.iload_n 1, 1) := by decide +kernel
theorem dX0_fresh_14 : decode cX0_fresh 14 = .ok (.ifCond .ne 40, 3) := by decide +kernel
theorem dX0_fresh_17 : decode cX0_fresh 17 = .ok (.iconst 0, 1) := by decide +kernel
theorem dX0_fresh_18 : decode cX0_fresh 18 = .ok (.istore_n 2, 1) := by decide +kernel
theorem dX0_fresh_19 : decode cX0_fresh 19 = .ok (.iconst 0, 1) := by decide +kernel
theorem dX0_fresh_20 : decode cX0_fresh 20 = .ok (.istore_n 3, 1) := by decide +kernel
theorem dX0_fresh_21 : decode cX0_fresh 21 = .ok (.iload_n 3, 1) := by decide +kernel
theorem dX0_fresh_22 : decode cX0_fresh 22 = .ok (.bipush 16, 2) := by decide +kernel
theorem dX0_fresh_24 : decode cX0_fresh 24 = .ok (.if_icmp .ge 30, 3) := by decide +kernel
theorem dX0_fresh_27 : decode cX0_fresh 27 = .ok (.aload_n 0, 1) := by decide +kernel
theorem dX0_fresh_28 : decode cX0_fresh 28 = .ok (.iload_n 3, 1) := by decide +kernel
theorem dX0_fresh_29 : decode cX0_fresh 29 = .ok (.invokevirtual 76, 3) := by decide +kernel
theorem dX0_fresh_32 : decode cX0_fresh 32 = .ok (.istore 4, 2) := by decide +kernel
theorem dX0_fresh_34 : decode cX0_fresh 34 = .ok (.iload 4, 2) := by decide +kernel
theorem dX0_fresh_36 : decode cX0_fresh 36 = .ok (.iload_n 2, 1) := by decide +kernel
theorem dX0_fresh_37 : decode cX0_fresh 37 = .ok (.if_icmp .le 11, 3) := by decide +kernel
theorem dX0_fresh_40 : decode cX0_fresh 40 = .ok (.iload 4, 2) := by decide +kernel
theorem dX0_fresh_42 : decode cX0_fresh 42 = .ok (.istore_n 2, 1) := by decide +kernel
theorem dX0_fresh_43 : decode cX0_fresh 43 = .ok (.aload_n 0, 1) := by decide +kernel
theorem dX0_fresh_44 : decode cX0_fresh 44 = .ok (.iload_n 3, 1) := by decide +kernel
theorem dX0_fresh_45 : decode cX0_fresh 45 = .ok (.putfield 73, 3) := by decide +kernel
theorem dX0_fresh_48 : decode cX0_fresh 48 = .ok (.iinc 3 1, 3) := by decide +kernel
theorem dX0_fresh_51 : decode cX0_fresh 51 = .ok (.goto (-30), 3) := by decide +kernel
theorem dX0_fresh_54 : decode cX0_fresh 54 = .ok (.aload_n 0, 1) := by decide +kernel
theorem dX0_fresh_55 : decode cX0_fresh 55 = .ok (.getfield 73, 3) := by decide +kernel
theorem dX0_fresh_58 : decode cX0_fresh 58 = .ok (.bipush 8, 2) := by decide +kernel
theorem dX0_fresh_60 : decode cX0_fresh 60 = .ok (.imul, 1) := by decide +kernel
theorem dX0_fresh_61 : decode cX0_fresh 61 = .ok (.istore_n 2, 1) := by decide +kernel
theorem dX0_fresh_62 : decode cX0_fresh 62 = .ok (.aload_n 0, 1) := by decide +kernel
theorem dX0_fresh_63 : decode cX0_fresh 63 = .ok (.getfield 73, 3) := by decide +kernel
theorem dX0_fresh_66 : decode cX0_fresh 66 = .ok (.bipush 8, 2) := by decide +kernel
theorem dX0_fresh_68 : decode cX0_fresh 68 = .ok (.imul, 1) := by decide +kernel
theorem dX0_fresh_69 : decode cX0_fresh 69 = .ok (.bipush 8, 2) := by decide +kernel
theorem dX0_fresh_71 : decode cX0_fresh 71 = .ok (.iadd, 1) := by decide +kernel
theorem dX0_fresh_72 : decode cX0_fresh 72 = .ok (.iconst 1, 1) := by decide +kernel
theorem dX0_fresh_73 : decode cX0_fresh 73 = .ok (.isub, 1) := by decide +kernel
theorem dX0_fresh_74 : decode cX0_fresh 74 = .ok (.istore_n 3, 1) := by decide +kernel
theorem dX0_fresh_75 : decode cX0_fresh 75 = .ok (.iload_n 3, 1) := by decide +kernel
theorem dX0_fresh_76 : decode cX0_fresh 76 = .ok (.aload_n 0, 1) := by decide +kernel
theorem dX0_fresh_77 : decode cX0_fresh 77 = .ok (.getfield 73, 3) := by decide +kernel
theorem dX0_fresh_80 : decode cX0_fresh 80 = .ok (.bipush 8, 2) := by decide +kernel
theorem dX0_fresh_82 : decode cX0_fresh 82 = .ok (.imul, 1) := by decide +kernel
theorem dX0_fresh_83 : decode cX0_fresh 83 = .ok (.if_icmp .lt 20, 3) := by decide +kernel
theorem dX0_fresh_86 : decode cX0_fresh 86 = .ok (.aload_n 0, 1) := by decide +kernel
theorem dX0_fresh_87 : decode cX0_fresh 87 = .ok (.getfield 50, 3) := by decide +kernel
theorem dX0_fresh_90 : decode cX0_fresh 90 = .ok (.iload_n 3, 1) := by decide +kernel
theorem dX0_fresh_91 : decode cX0_fresh 91 = .ok (.baload, 1) := by decide +kernel
theorem dX0_fresh_92 : decode cX0_fresh 92 = .ok (.ifCond .ne 5, 3) := by decide +kernel
theorem dX0_fresh_95 : decode cX0_fresh 95 = .ok (.iload_n 3, 1) := by decide +kernel
theorem dX0_fresh_96 : decode cX0_fresh 96 = .ok (.istore_n 2, 1) := by decide +kernel
theorem dX0_fresh_97 : decode cX0_fresh 97 = .ok (.iinc 3 (-1), 3) := by decide +kernel
theorem dX0_fresh_100 : decode cX0_fresh 100 = .ok (.goto (-25), 3) := by decide +kernel
theorem dX0_fresh_103 : decode cX0_fresh 103 = .ok (.aload_n 0, 1) := by decide +kernel
theorem dX0_fresh_104 : decode cX0_fresh 104 = .ok (.getfield 22, 3) := by decide +kernel
theorem dX0_fresh_107 : decode cX0_fresh 107 = .ok (.iload_n 2, 1) := by decide +kernel
theorem dX0_fresh_108 : decode cX0_fresh 108 = .ok (.iconst (-1), 1) := by decide +kernel
theorem dX0_fresh_109 : decode cX0_fresh 109 = .ok (.iastore, 1) := by decide +kernel
theorem dX0_fresh_110 : decode cX0_fresh 110 = .ok (.iload_n 2, 1) := by decide +kernel
theorem dX0_fresh_111 : decode cX0_fresh 111 = .ok (.ireturn, 1) := by decide +kernel
theorem dX0_survey_0 : decode cX0_survey 0 = .ok (.iconst 0, 1) := by decide +kernel
theorem dX0_survey_1 : decode cX0_survey 1 = .ok (.istore_n 1, 1) := by decide +kernel
theorem dX0_survey_2 : decode cX0_survey 2 = .ok (.iload_n 1, 1) := by decide +kernel
theorem dX0_survey_3 : decode cX0_survey 3 = .ok (.sipush 128, 3) := by decide +kernel
theorem dX0_survey_6 : decode cX0_survey 6 = .ok (.if_icmp .ge 16, 3) := by decide +kernel
theorem dX0_survey_9 : decode cX0_survey 9 = .ok (.aload_n 0, 1) := by decide +kernel
theorem dX0_survey_10 : decode cX0_survey 10 = .ok (.getfield 50, 3) := by decide +kernel
theorem dX0_survey_13 : decode cX0_survey 13 = .ok (.iload_n 1, 1) := by decide +kernel
theorem dX0_survey_14 : decode cX0_survey 14 = .ok (.iconst 0, 1) := by decide +kernel
theorem dX0_survey_15 : decode cX0_survey 15 = .ok (.bastore, 1) := by decide +kernel
theorem dX0_survey_16 : decode cX0_survey 16 = .ok (.iinc 1 1, 3) := by decide +kernel
theorem dX0_survey_19 : decode cX0_survey 19 = .ok (.goto (-17), 3) := by decide +kernel
theorem dX0_survey_22 : decode cX0_survey 22 = .ok (.iconst 0, 1) := by decide +kernel
theorem dX0_survey_23 : decode cX0_survey 23 = .ok (.istore_n 1, 1) := by decide +kernel
theorem dX0_survey_24 : decode cX0_survey 24 = .ok (.iload_n 1, 1) := by decide +kernel
theorem dX0_survey_25 : decode cX0_survey 25 = .ok (.bipush 6, 2) := by decide +kernel
theorem dX0_survey_27 : decode cX0_survey 27 = .ok (.if_icmp .ge 49, 3) := by decide +kernel
theorem dX0_survey_30 : decode cX0_survey 30 = .ok (.aload_n 0, 1) := by decide +kernel
theorem dX0_survey_31 : decode cX0_survey 31 = .ok (.aload_n 0, 1) := by decide +kernel
theorem dX0_survey_32 : decode cX0_survey 32 = .ok (.getfield 40, 3) := by decide +kernel
theorem dX0_survey_35 : decode cX0_survey 35 = .ok (.iload_n 1, 1) := by decide +kernel
theorem dX0_survey_36 : decode cX0_survey 36 = .ok (.iaload, 1) := by decide +kernel
theorem dX0_survey_37 : decode cX0_survey 37 = .ok (.invokevirtual 60, 3) := by decide +kernel
theorem dX0_survey_40 : decode cX0_survey 40 = .ok (.aload_n 0, 1) := by decide +kernel
theorem dX0_survey_41 : decode cX0_survey 41 = .ok (.aload_n 0, 1) := by decide +kernel
theorem dX0_survey_42 : decode cX0_survey 42 = .ok (.getfield 43, 3) := by decide +kernel
theorem dX0_survey_45 : decode cX0_survey 45 = .ok (.iload_n 1, 1) := by decide +kernel
theorem dX0_survey_46 : decode cX0_survey 46 = .ok (.iaload, 1) := by decide +kernel
theorem dX0_survey_47 : decode cX0_survey 47 = .ok (.invokevirtual 60, 3) := by decide +kernel
theorem dX0_survey_50 : decode cX0_survey 50 = .ok (.aload_n 0, 1) := by decide +kernel
theorem dX0_survey_51 : decode cX0_survey 51 = .ok (.aload_n 0, 1) := by decide +kernel
theorem dX0_survey_52 : decode cX0_survey 52 = .ok (.getfield 34, 3) := by decide +kernel
theorem dX0_survey_55 : decode cX0_survey 55 = .ok (.aload_n 0, 1) := by decide +kernel
theorem dX0_survey_56 : decode cX0_survey 56 = .ok (.getfield 64, 3) := by decide +kernel
theorem dX0_survey_59 : decode cX0_survey 59 = .ok (.iconst 1, 1) := by decide +kernel
theorem dX0_survey_60 : decode cX0_survey 60 = .ok (.iand, 1) := by decide +kernel
theorem dX0_survey_61 : decode cX0_survey 61 = .ok (.bipush 6, 2) := by decide +kernel
theorem dX0_survey_63 : decode cX0_survey 63 = .ok (.imul, 1) := by decide +kernel
theorem dX0_survey_64 : decode cX0_survey 64 = .ok (.iload_n 1, 1) := by decide +kernel
theorem dX0_survey_65 : decode cX0_survey 65 = .ok (.iadd, 1) := by decide +kernel
theorem dX0_survey_66 : decode cX0_survey 66 = .ok (.iaload, 1) := by decide +kernel
theorem dX0_survey_67 : decode cX0_survey 67 = .ok (.invokevirtual 60, 3) := by decide +kernel
theorem dX0_survey_70 : decode cX0_survey 70 = .ok (.iinc 1 1, 3) := by decide +kernel
theorem dX0_survey_73 : decode cX0_survey 73 = .ok (.goto (-49), 3) := by decide +kernel
theorem dX0_survey_76 : decode cX0_survey 76 = .ok (.aload_n 0, 1) := by decide +kernel
theorem dX0_survey_77 : decode cX0_survey 77 = .ok (.getfield 53, 3) := by decide +kernel
theorem dX0_survey_80 : decode cX0_survey 80 = .ok (.iconst (-1), 1) := by decide +kernel
theorem dX0_survey_81 : decode cX0_survey 81 = .ok (.if_icmp .eq 13, 3) := by decide +kernel
theorem dX0_survey_84 : decode cX0_survey 84 = .ok (.aload_n 0, 1) := by decide +kernel
theorem dX0_survey_85 : decode cX0_survey 85 = .ok (.getfield 50, 3) := by decide +kernel
theorem dX0_survey_88 : decode cX0_survey 88 = .ok (.aload_n 0, 1) := by decide +kernel
theorem dX0_survey_89 : decode cX0_survey 89 = .ok (.getfield 53, 3) := by decide +kernel
theorem dX0_survey_92 : decode cX0_survey 92 = .ok (.iconst 1, 1) := by decide +kernel
theorem dX0_survey_93 : decode cX0_survey 93 = .ok (.bastore, 1) := by decide +kernel
theorem dX0_survey_94 : decode cX0_survey 94 = .ok (.aload_n 0, 1) := by decide +kernel
theorem dX0_survey_95 : decode cX0_survey 95 = .ok (.getfield 37, 3) := by decide +kernel
theorem dX0_survey_98 : decode cX0_survey 98 = .ok (.aload_n 0, 1) := by decide +kernel
theorem dX0_survey_99 : decode cX0_survey 99 = .ok (.getfield 64, 3) := by decide +kernel
theorem dX0_survey_102 : decode cX0_survey 102 = .ok (.iconst 1, 1) := by decide +kernel
theorem dX0_survey_103 : decode cX0_survey 103 = .ok (.iand, 1) := by decide +kernel
theorem dX0_survey_104 : decode cX0_survey 104 = .ok (.iaload, 1) := by decide +kernel
theorem dX0_survey_105 : decode cX0_survey 105 = .ok (.istore_n 1, 1) := by decide +kernel
theorem dX0_survey_106 : decode cX0_survey 106 = .ok (.iconst 0, 1) := by decide +kernel
theorem dX0_survey_107 : decode cX0_survey 107 = .ok (.istore_n 2, 1) := by decide +kernel
theorem dX0_survey_108 : decode cX0_survey 108 = .ok (.iload_n 2, 1) := by decide +kernel
theorem dX0_survey_109 : decode cX0_survey 109 = .ok (.aload_n 0, 1) := by decide +kernel
theorem dX0_survey_110 : decode cX0_survey 110 = .ok (.getfield 67, 3) := by decide +kernel
theorem dX0_survey_113 : decode cX0_survey 113 = .ok (.if_icmp .ge 23, 3) := by decide +kernel
theorem dX0_survey_116 : decode cX0_survey 116 = .ok (.aload_n 0, 1) := by decide +kernel
theorem dX0_survey_117 : decode cX0_survey 117 = .ok (.getfield 50, 3) := by decide +kernel
theorem dX0_survey_120 : decode cX0_survey 120 = .ok (.iload_n 1, 1) := by decide +kernel
theorem dX0_survey_121 : decode cX0_survey 121 = .ok (.iconst 1, 1) := by decide +kernel
theorem dX0_survey_122 : decode cX0_survey 122 = .ok (.bastore, 1) := by decide +kernel
theorem dX0_survey_123 : decode cX0_survey 123 = .ok (.aload_n 0, 1) := by decide +kernel
theorem dX0_survey_124 : decode cX0_survey 124 = .ok (.getfield 25, 3) := by decide +kernel
theorem dX0_survey_127 : decode cX0_survey 127 = .ok (.iload_n 1, 1) := by decide +kernel
theorem dX0_survey_128 : decode cX0_survey 128 = .ok (.iaload, 1) := by decide +kernel
theorem dX0_survey_129 : decode cX0_survey 129 = .ok (.istore_n 1, 1) := by decide +kernel
theorem dX0_survey_130 : decode cX0_survey 130 = .ok (.iinc 2 1, 3) := by decide +kernel
theorem dX0_survey_133 : decode cX0_survey 133 = .ok (.goto (-25), 3) := by decide +kernel
theorem dX0_survey_136 : decode cX0_survey 136 = .ok (.return_, 1) := by decide +kernel
theorem dX0_need_0 : decode cX0_need 0 = .ok (.iload_n 1, 1) := by decide +kernel
theorem dX0_need_1 : decode cX0_need 1 = .ok (.iconst (-1), 1) := by decide +kernel
theorem dX0_need_2 : decode cX0_need 2 = .ok (.if_icmp .ne 4, 3) := by decide +kernel
theorem dX0_need_5 : decode cX0_need 5 = .ok (.return_, 1) := by decide +kernel
theorem dX0_need_6 : decode cX0_need 6 = .ok (.aload_n 0, 1) := by decide +kernel
theorem dX0_need_7 : decode cX0_need 7 = .ok (.getfield 50, 3) := by decide +kernel
theorem dX0_need_10 : decode cX0_need 10 = .ok (.iload_n 1, 1) := by decide +kernel
theorem dX0_need_11 : decode cX0_need 11 = .ok (.iconst 1, 1) := by decide +kernel
end
section
set_option maxRecDepth 100000
theorem dX0_need_12 : decode cX0_need 12 = .ok (.bastore, 1) := by decide +kernel
theorem dX0_need_13 : decode cX0_need 13 = .ok (.iconst 0, 1) := by decide +kernel
theorem dX0_need_14 : decode cX0_need 14 = .ok (.istore_n 2, 1) := by decide +kernel
theorem dX0_need_15 : decode cX0_need 15 = .ok (.iload_n 2, 1) := by decide +kernel
theorem dX0_need_16 : decode cX0_need 16 = .ok (.aload_n 0, 1) := by decide +kernel
theorem dX0_need_17 : decode cX0_need 17 = .ok (.getfield 16, 3) := by decide +kernel
theorem dX0_need_20 : decode cX0_need 20 = .ok (.iload_n 1, 1) := by decide +kernel
theorem dX0_need_21 : decode cX0_need 21 = .ok (.iaload, 1) := by decide +kernel
theorem dX0_need_22 : decode cX0_need 22 = .ok (.if_icmp .ge 25, 3) := by decide +kernel
theorem dX0_need_25 : decode cX0_need 25 = .ok (.aload_n 0, 1) := by decide +kernel
theorem dX0_need_26 : decode cX0_need 26 = .ok (.getfield 50, 3) := by decide +kernel
theorem dX0_need_29 : decode cX0_need 29 = .ok (.aload_n 0, 1) := by decide +kernel
theorem dX0_need_30 : decode cX0_need 30 = .ok (.getfield 19, 3) := by decide +kernel
theorem dX0_need_33 : decode cX0_need 33 = .ok (.iload_n 1, 1) := by decide +kernel
theorem dX0_need_34 : decode cX0_need 34 = .ok (.iconst 4, 1) := by decide +kernel
theorem dX0_need_35 : decode cX0_need 35 = .ok (.imul, 1) := by decide +kernel
theorem dX0_need_36 : decode cX0_need 36 = .ok (.iload_n 2, 1) := by decide +kernel
theorem dX0_need_37 : decode cX0_need 37 = .ok (.iadd, 1) := by decide +kernel
theorem dX0_need_38 : decode cX0_need 38 = .ok (.iaload, 1) := by decide +kernel
theorem dX0_need_39 : decode cX0_need 39 = .ok (.iconst 1, 1) := by decide +kernel
theorem dX0_need_40 : decode cX0_need 40 = .ok (.bastore, 1) := by decide +kernel
theorem dX0_need_41 : decode cX0_need 41 = .ok (.iinc 2 1, 3) := by decide +kernel
theorem dX0_need_44 : decode cX0_need 44 = .ok (.goto (-29), 3) := by decide +kernel
theorem dX0_need_47 : decode cX0_need 47 = .ok (.return_, 1) := by decide +kernel
theorem dX0_freeIn_0 : decode cX0_freeIn 0 = .ok (.iconst 0, 1) := by decide +kernel
theorem dX0_freeIn_1 : decode cX0_freeIn 1 = .ok (.istore_n 2, 1) := by decide +kernel
theorem dX0_freeIn_2 : decode cX0_freeIn 2 = .ok (.iload_n 1, 1) := by decide +kernel
theorem dX0_freeIn_3 : decode cX0_freeIn 3 = .ok (.bipush 8, 2) := by decide +kernel
theorem dX0_freeIn_5 : decode cX0_freeIn 5 = .ok (.imul, 1) := by decide +kernel
theorem dX0_freeIn_6 : decode cX0_freeIn 6 = .ok (.istore_n 3, 1) := by decide +kernel
theorem dX0_freeIn_7 : decode cX0_freeIn 7 = .ok (.iload_n 3, 1) := by decide +kernel
theorem dX0_freeIn_8 : decode cX0_freeIn 8 = .ok (.iload_n 1, 1) := by decide +kernel
theorem dX0_freeIn_9 : decode cX0_freeIn 9 = .ok (.bipush 8, 2) := by decide +kernel
theorem dX0_freeIn_11 : decode cX0_freeIn 11 = .ok (.imul, 1) := by decide +kernel
theorem dX0_freeIn_12 : decode cX0_freeIn 12 = .ok (.bipush 8, 2) := by decide +kernel
theorem dX0_freeIn_14 : decode cX0_freeIn 14 = .ok (.iadd, 1) := by decide +kernel
theorem dX0_freeIn_15 : decode cX0_freeIn 15 = .ok (.if_icmp .ge 21, 3) := by decide +kernel
theorem dX0_freeIn_18 : decode cX0_freeIn 18 = .ok (.aload_n 0, 1) := by decide +kernel
theorem dX0_freeIn_19 : decode cX0_freeIn 19 = .ok (.getfield 50, 3) := by decide +kernel
theorem dX0_freeIn_22 : decode cX0_freeIn 22 = .ok (.iload_n 3, 1) := by decide +kernel
theorem dX0_freeIn_23 : decode cX0_freeIn 23 = .ok (.baload, 1) := by decide +kernel
theorem dX0_freeIn_24 : decode cX0_freeIn 24 = .ok (.ifCond .ne 6, 3) := by decide +kernel
theorem dX0_freeIn_27 : decode cX0_freeIn 27 = .ok (.iinc 2 1, 3) := by decide +kernel
theorem dX0_freeIn_30 : decode cX0_freeIn 30 = .ok (.iinc 3 1, 3) := by decide +kernel
theorem dX0_freeIn_33 : decode cX0_freeIn 33 = .ok (.goto (-26), 3) := by decide +kernel
theorem dX0_freeIn_36 : decode cX0_freeIn 36 = .ok (.iload_n 2, 1) := by decide +kernel
theorem dX0_freeIn_37 : decode cX0_freeIn 37 = .ok (.ireturn, 1) := by decide +kernel
theorem dX0_create_0 : decode cX0_create 0 = .ok (.aload_n 0, 1) := by decide +kernel
theorem dX0_create_1 : decode cX0_create 1 = .ok (.iload_n 1, 1) := by decide +kernel
theorem dX0_create_2 : decode cX0_create 2 = .ok (.invokevirtual 87, 3) := by decide +kernel
theorem dX0_create_5 : decode cX0_create 5 = .ok (.ifCond .eq 5, 3) := by decide +kernel
theorem dX0_create_8 : decode cX0_create 8 = .ok (.iconst (-1), 1) := by decide +kernel
theorem dX0_create_9 : decode cX0_create 9 = .ok (.ireturn, 1) := by decide +kernel
theorem dX0_create_10 : decode cX0_create 10 = .ok (.aload_n 0, 1) := by decide +kernel
theorem dX0_create_11 : decode cX0_create 11 = .ok (.getfield 40, 3) := by decide +kernel
theorem dX0_create_14 : decode cX0_create 14 = .ok (.iload_n 1, 1) := by decide +kernel
theorem dX0_create_15 : decode cX0_create 15 = .ok (.iaload, 1) := by decide +kernel
theorem dX0_create_16 : decode cX0_create 16 = .ok (.iconst (-1), 1) := by decide +kernel
theorem dX0_create_17 : decode cX0_create 17 = .ok (.if_icmp .eq 6, 3) := by decide +kernel
theorem dX0_create_20 : decode cX0_create 20 = .ok (.bipush (-3), 2) := by decide +kernel
theorem dX0_create_22 : decode cX0_create 22 = .ok (.ireturn, 1) := by decide +kernel
theorem dX0_create_23 : decode cX0_create 23 = .ok (.aload_n 0, 1) := by decide +kernel
theorem dX0_create_24 : decode cX0_create 24 = .ok (.iload_n 1, 1) := by decide +kernel
theorem dX0_create_25 : decode cX0_create 25 = .ok (.iconst 0, 1) := by decide +kernel
theorem dX0_create_26 : decode cX0_create 26 = .ok (.iconst (-1), 1) := by decide +kernel
theorem dX0_create_27 : decode cX0_create 27 = .ok (.iconst (-1), 1) := by decide +kernel
theorem dX0_create_28 : decode cX0_create 28 = .ok (.iconst (-1), 1) := by decide +kernel
theorem dX0_create_29 : decode cX0_create 29 = .ok (.invokevirtual 91, 3) := by decide +kernel
theorem dX0_create_32 : decode cX0_create 32 = .ok (.aload_n 0, 1) := by decide +kernel
theorem dX0_create_33 : decode cX0_create 33 = .ok (.getfield 46, 3) := by decide +kernel
theorem dX0_create_36 : decode cX0_create 36 = .ok (.iload_n 1, 1) := by decide +kernel
theorem dX0_create_37 : decode cX0_create 37 = .ok (.iconst 1, 1) := by decide +kernel
theorem dX0_create_38 : decode cX0_create 38 = .ok (.bastore, 1) := by decide +kernel
theorem dX0_create_39 : decode cX0_create 39 = .ok (.iconst 0, 1) := by decide +kernel
theorem dX0_create_40 : decode cX0_create 40 = .ok (.ireturn, 1) := by decide +kernel
theorem dX0_bad_0 : decode cX0_bad 0 = .ok (.iload_n 1, 1) := by decide +kernel
theorem dX0_bad_1 : decode cX0_bad 1 = .ok (.ifCond .lt 9, 3) := by decide +kernel
theorem dX0_bad_4 : decode cX0_bad 4 = .ok (.iload_n 1, 1) := by decide +kernel
theorem dX0_bad_5 : decode cX0_bad 5 = .ok (.bipush 6, 2) := by decide +kernel
theorem dX0_bad_7 : decode cX0_bad 7 = .ok (.if_icmp .lt 7, 3) := by decide +kernel
theorem dX0_bad_10 : decode cX0_bad 10 = .ok (.iconst 1, 1) := by decide +kernel
theorem dX0_bad_11 : decode cX0_bad 11 = .ok (.goto 4, 3) := by decide +kernel
theorem dX0_bad_14 : decode cX0_bad 14 = .ok (.iconst 0, 1) := by decide +kernel
theorem dX0_bad_15 : decode cX0_bad 15 = .ok (.ireturn, 1) := by decide +kernel
theorem dX0_writeNode_0 : decode cX0_writeNode 0 = .ok (.aload_n 0, 1) := by decide +kernel
theorem dX0_writeNode_1 : decode cX0_writeNode 1 = .ok (.invokevirtual 80, 3) := by decide +kernel
theorem dX0_writeNode_4 : decode cX0_writeNode 4 = .ok (.istore 6, 2) := by decide +kernel
theorem dX0_writeNode_6 : decode cX0_writeNode 6 = .ok (.aload_n 0, 1) := by decide +kernel
theorem dX0_writeNode_7 : decode cX0_writeNode 7 = .ok (.getfield 13, 3) := by decide +kernel
theorem dX0_writeNode_10 : decode cX0_writeNode 10 = .ok (.iload 6, 2) := by decide +kernel
theorem dX0_writeNode_12 : decode cX0_writeNode 12 = .ok (.iload_n 1, 1) := by decide +kernel
theorem dX0_writeNode_13 : decode cX0_writeNode 13 = .ok (.iastore, 1) := by decide +kernel
theorem dX0_writeNode_14 : decode cX0_writeNode 14 = .ok (.aload_n 0, 1) := by decide +kernel
theorem dX0_writeNode_15 : decode cX0_writeNode 15 = .ok (.getfield 16, 3) := by decide +kernel
theorem dX0_writeNode_18 : decode cX0_writeNode 18 = .ok (.iload 6, 2) := by decide +kernel
theorem dX0_writeNode_20 : decode cX0_writeNode 20 = .ok (.iload_n 2, 1) := by decide +kernel
theorem dX0_writeNode_21 : decode cX0_writeNode 21 = .ok (.iastore, 1) := by decide +kernel
theorem dX0_writeNode_22 : decode cX0_writeNode 22 = .ok (.iconst 0, 1) := by decide +kernel
theorem dX0_writeNode_23 : decode cX0_writeNode 23 = .ok (.istore 7, 2) := by decide +kernel
theorem dX0_writeNode_25 : decode cX0_writeNode 25 = .ok (.iload 7, 2) := by decide +kernel
theorem dX0_writeNode_27 : decode cX0_writeNode 27 = .ok (.iconst 4, 1) := by decide +kernel
theorem dX0_writeNode_28 : decode cX0_writeNode 28 = .ok (.if_icmp .ge 68, 3) := by decide +kernel
theorem dX0_writeNode_31 : decode cX0_writeNode 31 = .ok (.iload_n 3, 1) := by decide +kernel
theorem dX0_writeNode_32 : decode cX0_writeNode 32 = .ok (.iconst (-1), 1) := by decide +kernel
theorem dX0_writeNode_33 : decode cX0_writeNode 33 = .ok (.if_icmp .eq 14, 3) := by decide +kernel
theorem dX0_writeNode_36 : decode cX0_writeNode 36 = .ok (.iload 7, 2) := by decide +kernel
theorem dX0_writeNode_38 : decode cX0_writeNode 38 = .ok (.aload_n 0, 1) := by decide +kernel
theorem dX0_writeNode_39 : decode cX0_writeNode 39 = .ok (.getfield 16, 3) := by decide +kernel
theorem dX0_writeNode_42 : decode cX0_writeNode 42 = .ok (.iload_n 3, 1) := by decide +kernel
theorem dX0_writeNode_43 : decode cX0_writeNode 43 = .ok (.iaload, 1) := by decide +kernel
theorem dX0_writeNode_44 : decode cX0_writeNode 44 = .ok (.if_icmp .lt 7, 3) := by decide +kernel
theorem dX0_writeNode_47 : decode cX0_writeNode 47 = .ok (.iconst (-1), 1) := by decide +kernel
theorem dX0_writeNode_48 : decode cX0_writeNode 48 = .ok (.goto 14, 3) := by decide +kernel
theorem dX0_writeNode_51 : decode cX0_writeNode 51 = .ok (.aload_n 0, 1) := by decide +kernel
theorem dX0_writeNode_52 : decode cX0_writeNode 52 = .ok (.getfield 19, 3) := by decide +kernel
theorem dX0_writeNode_55 : decode cX0_writeNode 55 = .ok (.iload_n 3, 1) := by decide +kernel
theorem dX0_writeNode_56 : decode cX0_writeNode 56 = .ok (.iconst 4, 1) := by decide +kernel
theorem dX0_writeNode_57 : decode cX0_writeNode 57 = .ok (.imul, 1) := by decide +kernel
theorem dX0_writeNode_58 : decode cX0_writeNode 58 = .ok (.iload 7, 2) := by decide +kernel
theorem dX0_writeNode_60 : decode cX0_writeNode 60 = .ok (.iadd, 1) := by decide +kernel
theorem dX0_writeNode_61 : decode cX0_writeNode 61 = .ok (.iaload, 1) := by decide +kernel
theorem dX0_writeNode_62 : decode cX0_writeNode 62 = .ok (.istore 8, 2) := by decide +kernel
theorem dX0_writeNode_64 : decode cX0_writeNode 64 = .ok (.aload_n 0, 1) := by decide +kernel
theorem dX0_writeNode_65 : decode cX0_writeNode 65 = .ok (.getfield 19, 3) := by decide +kernel
theorem dX0_writeNode_68 : decode cX0_writeNode 68 = .ok (.iload 6, 2) := by decide +kernel
theorem dX0_writeNode_70 : decode cX0_writeNode 70 = .ok (.iconst 4, 1) := by decide +kernel
theorem dX0_writeNode_71 : decode cX0_writeNode 71 = .ok (.imul, 1) := by decide +kernel
theorem dX0_writeNode_72 : decode cX0_writeNode 72 = .ok (.iload 7, 2) := by decide +kernel
theorem dX0_writeNode_74 : decode cX0_writeNode 74 = .ok (.iadd, 1) := by decide +kernel
theorem dX0_writeNode_75 : decode cX0_writeNode 75 = .ok (.iload 7, 2) := by decide +kernel
theorem dX0_writeNode_77 : decode cX0_writeNode 77 = .ok (.iload 4, 2) := by decide +kernel
theorem dX0_writeNode_79 : decode cX0_writeNode 79 = .ok (.if_icmp .ne 8, 3) := by decide +kernel
theorem dX0_writeNode_82 : decode cX0_writeNode 82 = .ok (.iload 5, 2) := by decide +kernel
theorem dX0_writeNode_84 : decode cX0_writeNode 84 = .ok (.goto 5, 3) := by decide +kernel
theorem dX0_writeNode_87 : decode cX0_writeNode 87 = .ok (.iload 8, 2) := by decide +kernel
theorem dX0_writeNode_89 : decode cX0_writeNode 89 = .ok (.iastore, 1) := by decide +kernel
theorem dX0_writeNode_90 : decode cX0_writeNode 90 = .ok (.iinc 7 1, 3) := by decide +kernel
theorem dX0_writeNode_93 : decode cX0_writeNode 93 = .ok (.goto (-68), 3) := by decide +kernel
theorem dX0_writeNode_96 : decode cX0_writeNode 96 = .ok (.aload_n 0, 1) := by decide +kernel
theorem dX0_writeNode_97 : decode cX0_writeNode 97 = .ok (.getfield 40, 3) := by decide +kernel
theorem dX0_writeNode_100 : decode cX0_writeNode 100 = .ok (.iload_n 1, 1) := by decide +kernel
theorem dX0_writeNode_101 : decode cX0_writeNode 101 = .ok (.iload 6, 2) := by decide +kernel
theorem dX0_writeNode_103 : decode cX0_writeNode 103 = .ok (.iastore, 1) := by decide +kernel
theorem dX0_writeNode_104 : decode cX0_writeNode 104 = .ok (.return_, 1) := by decide +kernel
theorem dX0_remove_0 : decode cX0_remove 0 = .ok (.aload_n 0, 1) := by decide +kernel
theorem dX0_remove_1 : decode cX0_remove 1 = .ok (.iload_n 1, 1) := by decide +kernel
theorem dX0_remove_2 : decode cX0_remove 2 = .ok (.invokevirtual 87, 3) := by decide +kernel
theorem dX0_remove_5 : decode cX0_remove 5 = .ok (.ifCond .eq 5, 3) := by decide +kernel
theorem dX0_remove_8 : decode cX0_remove 8 = .ok (.iconst (-1), 1) := by decide +kernel
theorem dX0_remove_9 : decode cX0_remove 9 = .ok (.ireturn, 1) := by decide +kernel
theorem dX0_remove_10 : decode cX0_remove 10 = .ok (.aload_n 0, 1) := by decide +kernel
theorem dX0_remove_11 : decode cX0_remove 11 = .ok (.getfield 40, 3) := by decide +kernel
theorem dX0_remove_14 : decode cX0_remove 14 = .ok (.iload_n 1, 1) := by decide +kernel
theorem dX0_remove_15 : decode cX0_remove 15 = .ok (.iaload, 1) := by decide +kernel
theorem dX0_remove_16 : decode cX0_remove 16 = .ok (.iconst (-1), 1) := by decide +kernel
theorem dX0_remove_17 : decode cX0_remove 17 = .ok (.if_icmp .ne 6, 3) := by decide +kernel
theorem dX0_remove_20 : decode cX0_remove 20 = .ok (.bipush (-3), 2) := by decide +kernel
theorem dX0_remove_22 : decode cX0_remove 22 = .ok (.ireturn, 1) := by decide +kernel
theorem dX0_remove_23 : decode cX0_remove 23 = .ok (.aload_n 0, 1) := by decide +kernel
theorem dX0_remove_24 : decode cX0_remove 24 = .ok (.getfield 16, 3) := by decide +kernel
theorem dX0_remove_27 : decode cX0_remove 27 = .ok (.aload_n 0, 1) := by decide +kernel
theorem dX0_remove_28 : decode cX0_remove 28 = .ok (.getfield 40, 3) := by decide +kernel
theorem dX0_remove_31 : decode cX0_remove 31 = .ok (.iload_n 1, 1) := by decide +kernel
theorem dX0_remove_32 : decode cX0_remove 32 = .ok (.iaload, 1) := by decide +kernel
theorem dX0_remove_33 : decode cX0_remove 33 = .ok (.iaload, 1) := by decide +kernel
theorem dX0_remove_34 : decode cX0_remove 34 = .ok (.istore_n 2, 1) := by decide +kernel
theorem dX0_remove_35 : decode cX0_remove 35 = .ok (.aload_n 0, 1) := by decide +kernel
theorem dX0_remove_36 : decode cX0_remove 36 = .ok (.getfield 40, 3) := by decide +kernel
theorem dX0_remove_39 : decode cX0_remove 39 = .ok (.iload_n 1, 1) := by decide +kernel
theorem dX0_remove_40 : decode cX0_remove 40 = .ok (.iconst (-1), 1) := by decide +kernel
theorem dX0_remove_41 : decode cX0_remove 41 = .ok (.iastore, 1) := by decide +kernel
theorem dX0_remove_42 : decode cX0_remove 42 = .ok (.aload_n 0, 1) := by decide +kernel
theorem dX0_remove_43 : decode cX0_remove 43 = .ok (.getfield 46, 3) := by decide +kernel
theorem dX0_remove_46 : decode cX0_remove 46 = .ok (.iload_n 1, 1) := by decide +kernel
theorem dX0_remove_47 : decode cX0_remove 47 = .ok (.iconst 0, 1) := by decide +kernel
theorem dX0_remove_48 : decode cX0_remove 48 = .ok (.bastore, 1) := by decide +kernel
theorem dX0_remove_49 : decode cX0_remove 49 = .ok (.iload_n 2, 1) := by decide +kernel
theorem dX0_remove_50 : decode cX0_remove 50 = .ok (.ireturn, 1) := by decide +kernel
theorem dX0_write_0 : decode cX0_write 0 = .ok (.aload_n 0, 1) := by decide +kernel
theorem dX0_write_1 : decode cX0_write 1 = .ok (.iload_n 1, 1) := by decide +kernel
theorem dX0_write_2 : decode cX0_write 2 = .ok (.invokevirtual 87, 3) := by decide +kernel
theorem dX0_write_5 : decode cX0_write 5 = .ok (.ifCond .eq 5, 3) := by decide +kernel
theorem dX0_write_8 : decode cX0_write 8 = .ok (.iconst (-1), 1) := by decide +kernel
theorem dX0_write_9 : decode cX0_write 9 = .ok (.ireturn, 1) := by decide +kernel
theorem dX0_write_10 : decode cX0_write 10 = .ok (.aload_n 0, 1) := by decide +kernel
theorem dX0_write_11 : decode cX0_write 11 = .ok (.getfield 40, 3) := by decide +kernel
theorem dX0_write_14 : decode cX0_write 14 = .ok (.iload_n 1, 1) := by decide +kernel
theorem dX0_write_15 : decode cX0_write 15 = .ok (.iaload, 1) := by decide +kernel
theorem dX0_write_16 : decode cX0_write 16 = .ok (.istore 4, 2) := by decide +kernel
theorem dX0_write_18 : decode cX0_write 18 = .ok (.iload 4, 2) := by decide +kernel
theorem dX0_write_20 : decode cX0_write 20 = .ok (.iconst (-1), 1) := by decide +kernel
theorem dX0_write_21 : decode cX0_write 21 = .ok (.if_icmp .ne 6, 3) := by decide +kernel
theorem dX0_write_24 : decode cX0_write 24 = .ok (.bipush (-3), 2) := by decide +kernel
theorem dX0_write_26 : decode cX0_write 26 = .ok (.ireturn, 1) := by decide +kernel
theorem dX0_write_27 : decode cX0_write 27 = .ok (.iload_n 2, 1) := by decide +kernel
theorem dX0_write_28 : decode cX0_write 28 = .ok (.ifCond .lt 19, 3) := by decide +kernel
theorem dX0_write_31 : decode cX0_write 31 = .ok (.iload_n 2, 1) := by decide +kernel
theorem dX0_write_32 : decode cX0_write 32 = .ok (.aload_n 0, 1) := by decide +kernel
theorem dX0_write_33 : decode cX0_write 33 = .ok (.getfield 16, 3) := by decide +kernel
theorem dX0_write_36 : decode cX0_write 36 = .ok (.iload 4, 2) := by decide +kernel
theorem dX0_write_38 : decode cX0_write 38 = .ok (.iaload, 1) := by decide +kernel
theorem dX0_write_39 : decode cX0_write 39 = .ok (.if_icmp .gt 8, 3) := by decide +kernel
theorem dX0_write_42 : decode cX0_write 42 = .ok (.iload_n 2, 1) := by decide +kernel
theorem dX0_write_43 : decode cX0_write 43 = .ok (.iconst 4, 1) := by decide +kernel
theorem dX0_write_44 : decode cX0_write 44 = .ok (.if_icmp .ne 5, 3) := by decide +kernel
theorem dX0_write_47 : decode cX0_write 47 = .ok (.iconst (-1), 1) := by decide +kernel
theorem dX0_write_48 : decode cX0_write 48 = .ok (.ireturn, 1) := by decide +kernel
theorem dX0_write_49 : decode cX0_write 49 = .ok (.iload_n 2, 1) := by decide +kernel
theorem dX0_write_50 : decode cX0_write 50 = .ok (.aload_n 0, 1) := by decide +kernel
theorem dX0_write_51 : decode cX0_write 51 = .ok (.getfield 16, 3) := by decide +kernel
theorem dX0_write_54 : decode cX0_write 54 = .ok (.iload 4, 2) := by decide +kernel
theorem dX0_write_56 : decode cX0_write 56 = .ok (.iaload, 1) := by decide +kernel
theorem dX0_write_57 : decode cX0_write 57 = .ok (.if_icmp .ne 9, 3) := by decide +kernel
theorem dX0_write_60 : decode cX0_write 60 = .ok (.iload_n 2, 1) := by decide +kernel
theorem dX0_write_61 : decode cX0_write 61 = .ok (.iconst 1, 1) := by decide +kernel
theorem dX0_write_62 : decode cX0_write 62 = .ok (.iadd, 1) := by decide +kernel
theorem dX0_write_63 : decode cX0_write 63 = .ok (.goto 10, 3) := by decide +kernel
theorem dX0_write_66 : decode cX0_write 66 = .ok (.aload_n 0, 1) := by decide +kernel
theorem dX0_write_67 : decode cX0_write 67 = .ok (.getfield 16, 3) := by decide +kernel
theorem dX0_write_70 : decode cX0_write 70 = .ok (.iload 4, 2) := by decide +kernel
theorem dX0_write_72 : decode cX0_write 72 = .ok (.iaload, 1) := by decide +kernel
theorem dX0_write_73 : decode cX0_write 73 = .ok (.istore 5, 2) := by decide +kernel
theorem dX0_write_75 : decode cX0_write 75 = .ok (.aload_n 0, 1) := by decide +kernel
theorem dX0_write_76 : decode cX0_write 76 = .ok (.iload_n 1, 1) := by decide +kernel
theorem dX0_write_77 : decode cX0_write 77 = .ok (.iload 5, 2) := by decide +kernel
theorem dX0_write_79 : decode cX0_write 79 = .ok (.iload 4, 2) := by decide +kernel
theorem dX0_write_81 : decode cX0_write 81 = .ok (.iconst (-1), 1) := by decide +kernel
theorem dX0_write_82 : decode cX0_write 82 = .ok (.iconst (-1), 1) := by decide +kernel
theorem dX0_write_83 : decode cX0_write 83 = .ok (.invokevirtual 91, 3) := by decide +kernel
theorem dX0_write_86 : decode cX0_write 86 = .ok (.aload_n 0, 1) := by decide +kernel
theorem dX0_write_87 : decode cX0_write 87 = .ok (.getfield 40, 3) := by decide +kernel
theorem dX0_write_90 : decode cX0_write 90 = .ok (.iload_n 1, 1) := by decide +kernel
theorem dX0_write_91 : decode cX0_write 91 = .ok (.iaload, 1) := by decide +kernel
theorem dX0_write_92 : decode cX0_write 92 = .ok (.istore 4, 2) := by decide +kernel
theorem dX0_write_94 : decode cX0_write 94 = .ok (.aload_n 0, 1) := by decide +kernel
theorem dX0_write_95 : decode cX0_write 95 = .ok (.getfield 16, 3) := by decide +kernel
theorem dX0_write_98 : decode cX0_write 98 = .ok (.iload 4, 2) := by decide +kernel
theorem dX0_write_100 : decode cX0_write 100 = .ok (.iload 5, 2) := by decide +kernel
theorem dX0_write_102 : decode cX0_write 102 = .ok (.iastore, 1) := by decide +kernel
theorem dX0_write_103 : decode cX0_write 103 = .ok (.aload_n 0, 1) := by decide +kernel
theorem dX0_write_104 : decode cX0_write 104 = .ok (.getfield 19, 3) := by decide +kernel
theorem dX0_write_107 : decode cX0_write 107 = .ok (.iload 4, 2) := by decide +kernel
theorem dX0_write_109 : decode cX0_write 109 = .ok (.iconst 4, 1) := by decide +kernel
theorem dX0_write_110 : decode cX0_write 110 = .ok (.imul, 1) := by decide +kernel
theorem dX0_write_111 : decode cX0_write 111 = .ok (.iload_n 2, 1) := by decide +kernel
theorem dX0_write_112 : decode cX0_write 112 = .ok (.iadd, 1) := by decide +kernel
theorem dX0_write_113 : decode cX0_write 113 = .ok (.iload 4, 2) := by decide +kernel
theorem dX0_write_115 : decode cX0_write 115 = .ok (.iastore, 1) := by decide +kernel
theorem dX0_write_116 : decode cX0_write 116 = .ok (.aload_n 0, 1) := by decide +kernel
theorem dX0_write_117 : decode cX0_write 117 = .ok (.invokevirtual 80, 3) := by decide +kernel
theorem dX0_write_120 : decode cX0_write 120 = .ok (.istore 6, 2) := by decide +kernel
theorem dX0_write_122 : decode cX0_write 122 = .ok (.aload_n 0, 1) := by decide +kernel
theorem dX0_write_123 : decode cX0_write 123 = .ok (.getfield 7, 3) := by decide +kernel
theorem dX0_write_126 : decode cX0_write 126 = .ok (.iload 6, 2) := by decide +kernel
theorem dX0_write_128 : decode cX0_write 128 = .ok (.iload_n 3, 1) := by decide +kernel
theorem dX0_write_129 : decode cX0_write 129 = .ok (.iastore, 1) := by decide +kernel
theorem dX0_write_130 : decode cX0_write 130 = .ok (.aload_n 0, 1) := by decide +kernel
theorem dX0_write_131 : decode cX0_write 131 = .ok (.getfield 19, 3) := by decide +kernel
theorem dX0_write_134 : decode cX0_write 134 = .ok (.iload 4, 2) := by decide +kernel
theorem dX0_write_136 : decode cX0_write 136 = .ok (.iconst 4, 1) := by decide +kernel
theorem dX0_write_137 : decode cX0_write 137 = .ok (.imul, 1) := by decide +kernel
theorem dX0_write_138 : decode cX0_write 138 = .ok (.iload_n 2, 1) := by decide +kernel
theorem dX0_write_139 : decode cX0_write 139 = .ok (.iadd, 1) := by decide +kernel
theorem dX0_write_140 : decode cX0_write 140 = .ok (.iload 6, 2) := by decide +kernel
theorem dX0_write_142 : decode cX0_write 142 = .ok (.iastore, 1) := by decide +kernel
theorem dX0_write_143 : decode cX0_write 143 = .ok (.iload 5, 2) := by decide +kernel
theorem dX0_write_145 : decode cX0_write 145 = .ok (.ireturn, 1) := by decide +kernel
theorem dX0_truncate_0 : decode cX0_truncate 0 = .ok (.aload_n 0, 1) := by decide +kernel
theorem dX0_truncate_1 : decode cX0_truncate 1 = .ok (.iload_n 1, 1) := by decide +kernel
theorem dX0_truncate_2 : decode cX0_truncate 2 = .ok (.invokevirtual 87, 3) := by decide +kernel
theorem dX0_truncate_5 : decode cX0_truncate 5 = .ok (.ifCond .eq 5, 3) := by decide +kernel
theorem dX0_truncate_8 : decode cX0_truncate 8 = .ok (.iconst (-1), 1) := by decide +kernel
theorem dX0_truncate_9 : decode cX0_truncate 9 = .ok (.ireturn, 1) := by decide +kernel
theorem dX0_truncate_10 : decode cX0_truncate 10 = .ok (.aload_n 0, 1) := by decide +kernel
theorem dX0_truncate_11 : decode cX0_truncate 11 = .ok (.getfield 40, 3) := by decide +kernel
theorem dX0_truncate_14 : decode cX0_truncate 14 = .ok (.iload_n 1, 1) := by decide +kernel
theorem dX0_truncate_15 : decode cX0_truncate 15 = .ok (.iaload, 1) := by decide +kernel
theorem dX0_truncate_16 : decode cX0_truncate 16 = .ok (.istore_n 3, 1) := by decide +kernel
theorem dX0_truncate_17 : decode cX0_truncate 17 = .ok (.iload_n 3, 1) := by decide +kernel
theorem dX0_truncate_18 : decode cX0_truncate 18 = .ok (.iconst (-1), 1) := by decide +kernel
theorem dX0_truncate_19 : decode cX0_truncate 19 = .ok (.if_icmp .ne 6, 3) := by decide +kernel
theorem dX0_truncate_22 : decode cX0_truncate 22 = .ok (.bipush (-3), 2) := by decide +kernel
theorem dX0_truncate_24 : decode cX0_truncate 24 = .ok (.ireturn, 1) := by decide +kernel
theorem dX0_truncate_25 : decode cX0_truncate 25 = .ok (.aload_n 0, 1) := by decide +kernel
theorem dX0_truncate_26 : decode cX0_truncate 26 = .ok (.getfield 16, 3) := by decide +kernel
theorem dX0_truncate_29 : decode cX0_truncate 29 = .ok (.iload_n 3, 1) := by decide +kernel
theorem dX0_truncate_30 : decode cX0_truncate 30 = .ok (.iaload, 1) := by decide +kernel
theorem dX0_truncate_31 : decode cX0_truncate 31 = .ok (.istore 4, 2) := by decide +kernel
theorem dX0_truncate_33 : decode cX0_truncate 33 = .ok (.iload_n 2, 1) := by decide +kernel
theorem dX0_truncate_34 : decode cX0_truncate 34 = .ok (.ifCond .lt 9, 3) := by decide +kernel
theorem dX0_truncate_37 : decode cX0_truncate 37 = .ok (.iload_n 2, 1) := by decide +kernel
theorem dX0_truncate_38 : decode cX0_truncate 38 = .ok (.iload 4, 2) := by decide +kernel
theorem dX0_truncate_40 : decode cX0_truncate 40 = .ok (.if_icmp .le 5, 3) := by decide +kernel
theorem dX0_truncate_43 : decode cX0_truncate 43 = .ok (.iconst (-1), 1) := by decide +kernel
theorem dX0_truncate_44 : decode cX0_truncate 44 = .ok (.ireturn, 1) := by decide +kernel
theorem dX0_truncate_45 : decode cX0_truncate 45 = .ok (.aload_n 0, 1) := by decide +kernel
theorem dX0_truncate_46 : decode cX0_truncate 46 = .ok (.iload_n 1, 1) := by decide +kernel
theorem dX0_truncate_47 : decode cX0_truncate 47 = .ok (.iload_n 2, 1) := by decide +kernel
theorem dX0_truncate_48 : decode cX0_truncate 48 = .ok (.iload_n 3, 1) := by decide +kernel
theorem dX0_truncate_49 : decode cX0_truncate 49 = .ok (.iconst (-1), 1) := by decide +kernel
theorem dX0_truncate_50 : decode cX0_truncate 50 = .ok (.iconst (-1), 1) := by decide +kernel
theorem dX0_truncate_51 : decode cX0_truncate 51 = .ok (.invokevirtual 91, 3) := by decide +kernel
theorem dX0_truncate_54 : decode cX0_truncate 54 = .ok (.iload 4, 2) := by decide +kernel
theorem dX0_truncate_56 : decode cX0_truncate 56 = .ok (.ireturn, 1) := by decide +kernel
theorem dX0_copy_0 : decode cX0_copy 0 = .ok (.aload_n 0, 1) := by decide +kernel
theorem dX0_copy_1 : decode cX0_copy 1 = .ok (.iload_n 1, 1) := by decide +kernel
theorem dX0_copy_2 : decode cX0_copy 2 = .ok (.invokevirtual 87, 3) := by decide +kernel
theorem dX0_copy_5 : decode cX0_copy 5 = .ok (.ifCond .ne 11, 3) := by decide +kernel
theorem dX0_copy_8 : decode cX0_copy 8 = .ok (.aload_n 0, 1) := by decide +kernel
theorem dX0_copy_9 : decode cX0_copy 9 = .ok (.iload_n 2, 1) := by decide +kernel
theorem dX0_copy_10 : decode cX0_copy 10 = .ok (.invokevirtual 87, 3) := by decide +kernel
theorem dX0_copy_13 : decode cX0_copy 13 = .ok (.ifCond .eq 5, 3) := by decide +kernel
theorem dX0_copy_16 : decode cX0_copy 16 = .ok (.iconst (-1), 1) := by decide +kernel
theorem dX0_copy_17 : decode cX0_copy 17 = .ok (.ireturn, 1) := by decide +kernel
theorem dX0_copy_18 : decode cX0_copy 18 = .ok (.aload_n 0, 1) := by decide +kernel
theorem dX0_copy_19 : decode cX0_copy 19 = .ok (.getfield 40, 3) := by decide +kernel
theorem dX0_copy_22 : decode cX0_copy 22 = .ok (.iload_n 1, 1) := by decide +kernel
theorem dX0_copy_23 : decode cX0_copy 23 = .ok (.iaload, 1) := by decide +kernel
theorem dX0_copy_24 : decode cX0_copy 24 = .ok (.iconst (-1), 1) := by decide +kernel
theorem dX0_copy_25 : decode cX0_copy 25 = .ok (.if_icmp .eq 13, 3) := by decide +kernel
theorem dX0_copy_28 : decode cX0_copy 28 = .ok (.aload_n 0, 1) := by decide +kernel
theorem dX0_copy_29 : decode cX0_copy 29 = .ok (.getfield 40, 3) := by decide +kernel
theorem dX0_copy_32 : decode cX0_copy 32 = .ok (.iload_n 2, 1) := by decide +kernel
theorem dX0_copy_33 : decode cX0_copy 33 = .ok (.iaload, 1) := by decide +kernel
theorem dX0_copy_34 : decode cX0_copy 34 = .ok (.iconst (-1), 1) := by decide +kernel
theorem dX0_copy_35 : decode cX0_copy 35 = .ok (.if_icmp .ne 6, 3) := by decide +kernel
theorem dX0_copy_38 : decode cX0_copy 38 = .ok (.bipush (-3), 2) := by decide +kernel
theorem dX0_copy_40 : decode cX0_copy 40 = .ok (.ireturn, 1) := by decide +kernel
theorem dX0_copy_41 : decode cX0_copy 41 = .ok (.aload_n 0, 1) := by decide +kernel
theorem dX0_copy_42 : decode cX0_copy 42 = .ok (.getfield 40, 3) := by decide +kernel
end
section
set_option maxRecDepth 100000
theorem dX0_copy_45 : decode cX0_copy 45 = .ok (.iload_n 2, 1) := by decide +kernel
theorem dX0_copy_46 : decode cX0_copy 46 = .ok (.iaload, 1) := by decide +kernel
theorem dX0_copy_47 : decode cX0_copy 47 = .ok (.istore_n 3, 1) := by decide +kernel
theorem dX0_copy_48 : decode cX0_copy 48 = .ok (.aload_n 0, 1) := by decide +kernel
theorem dX0_copy_49 : decode cX0_copy 49 = .ok (.getfield 16, 3) := by decide +kernel
theorem dX0_copy_52 : decode cX0_copy 52 = .ok (.iload_n 3, 1) := by decide +kernel
theorem dX0_copy_53 : decode cX0_copy 53 = .ok (.iaload, 1) := by decide +kernel
theorem dX0_copy_54 : decode cX0_copy 54 = .ok (.istore 4, 2) := by decide +kernel
theorem dX0_copy_56 : decode cX0_copy 56 = .ok (.iload_n 1, 1) := by decide +kernel
theorem dX0_copy_57 : decode cX0_copy 57 = .ok (.iload_n 2, 1) := by decide +kernel
theorem dX0_copy_58 : decode cX0_copy 58 = .ok (.if_icmp .ne 6, 3) := by decide +kernel
theorem dX0_copy_61 : decode cX0_copy 61 = .ok (.iload 4, 2) := by decide +kernel
theorem dX0_copy_63 : decode cX0_copy 63 = .ok (.ireturn, 1) := by decide +kernel
theorem dX0_copy_64 : decode cX0_copy 64 = .ok (.aload_n 0, 1) := by decide +kernel
theorem dX0_copy_65 : decode cX0_copy 65 = .ok (.iload_n 1, 1) := by decide +kernel
theorem dX0_copy_66 : decode cX0_copy 66 = .ok (.iconst 0, 1) := by decide +kernel
theorem dX0_copy_67 : decode cX0_copy 67 = .ok (.iconst (-1), 1) := by decide +kernel
theorem dX0_copy_68 : decode cX0_copy 68 = .ok (.iconst (-1), 1) := by decide +kernel
theorem dX0_copy_69 : decode cX0_copy 69 = .ok (.iconst (-1), 1) := by decide +kernel
theorem dX0_copy_70 : decode cX0_copy 70 = .ok (.invokevirtual 91, 3) := by decide +kernel
theorem dX0_copy_73 : decode cX0_copy 73 = .ok (.iconst 0, 1) := by decide +kernel
theorem dX0_copy_74 : decode cX0_copy 74 = .ok (.istore 5, 2) := by decide +kernel
theorem dX0_copy_76 : decode cX0_copy 76 = .ok (.iload 5, 2) := by decide +kernel
theorem dX0_copy_78 : decode cX0_copy 78 = .ok (.iload 4, 2) := by decide +kernel
theorem dX0_copy_80 : decode cX0_copy 80 = .ok (.if_icmp .ge 71, 3) := by decide +kernel
theorem dX0_copy_83 : decode cX0_copy 83 = .ok (.aload_n 0, 1) := by decide +kernel
theorem dX0_copy_84 : decode cX0_copy 84 = .ok (.invokevirtual 80, 3) := by decide +kernel
theorem dX0_copy_87 : decode cX0_copy 87 = .ok (.istore 6, 2) := by decide +kernel
theorem dX0_copy_89 : decode cX0_copy 89 = .ok (.aload_n 0, 1) := by decide +kernel
theorem dX0_copy_90 : decode cX0_copy 90 = .ok (.getfield 7, 3) := by decide +kernel
theorem dX0_copy_93 : decode cX0_copy 93 = .ok (.iload 6, 2) := by decide +kernel
theorem dX0_copy_95 : decode cX0_copy 95 = .ok (.aload_n 0, 1) := by decide +kernel
theorem dX0_copy_96 : decode cX0_copy 96 = .ok (.getfield 7, 3) := by decide +kernel
theorem dX0_copy_99 : decode cX0_copy 99 = .ok (.aload_n 0, 1) := by decide +kernel
theorem dX0_copy_100 : decode cX0_copy 100 = .ok (.getfield 19, 3) := by decide +kernel
theorem dX0_copy_103 : decode cX0_copy 103 = .ok (.iload_n 3, 1) := by decide +kernel
theorem dX0_copy_104 : decode cX0_copy 104 = .ok (.iconst 4, 1) := by decide +kernel
theorem dX0_copy_105 : decode cX0_copy 105 = .ok (.imul, 1) := by decide +kernel
theorem dX0_copy_106 : decode cX0_copy 106 = .ok (.iload 5, 2) := by decide +kernel
theorem dX0_copy_108 : decode cX0_copy 108 = .ok (.iadd, 1) := by decide +kernel
theorem dX0_copy_109 : decode cX0_copy 109 = .ok (.iaload, 1) := by decide +kernel
theorem dX0_copy_110 : decode cX0_copy 110 = .ok (.iaload, 1) := by decide +kernel
theorem dX0_copy_111 : decode cX0_copy 111 = .ok (.iastore, 1) := by decide +kernel
theorem dX0_copy_112 : decode cX0_copy 112 = .ok (.aload_n 0, 1) := by decide +kernel
theorem dX0_copy_113 : decode cX0_copy 113 = .ok (.getfield 19, 3) := by decide +kernel
theorem dX0_copy_116 : decode cX0_copy 116 = .ok (.aload_n 0, 1) := by decide +kernel
theorem dX0_copy_117 : decode cX0_copy 117 = .ok (.getfield 40, 3) := by decide +kernel
theorem dX0_copy_120 : decode cX0_copy 120 = .ok (.iload_n 1, 1) := by decide +kernel
theorem dX0_copy_121 : decode cX0_copy 121 = .ok (.iaload, 1) := by decide +kernel
theorem dX0_copy_122 : decode cX0_copy 122 = .ok (.iconst 4, 1) := by decide +kernel
theorem dX0_copy_123 : decode cX0_copy 123 = .ok (.imul, 1) := by decide +kernel
theorem dX0_copy_124 : decode cX0_copy 124 = .ok (.iload 5, 2) := by decide +kernel
theorem dX0_copy_126 : decode cX0_copy 126 = .ok (.iadd, 1) := by decide +kernel
theorem dX0_copy_127 : decode cX0_copy 127 = .ok (.iload 6, 2) := by decide +kernel
theorem dX0_copy_129 : decode cX0_copy 129 = .ok (.iastore, 1) := by decide +kernel
theorem dX0_copy_130 : decode cX0_copy 130 = .ok (.aload_n 0, 1) := by decide +kernel
theorem dX0_copy_131 : decode cX0_copy 131 = .ok (.getfield 16, 3) := by decide +kernel
theorem dX0_copy_134 : decode cX0_copy 134 = .ok (.aload_n 0, 1) := by decide +kernel
theorem dX0_copy_135 : decode cX0_copy 135 = .ok (.getfield 40, 3) := by decide +kernel
theorem dX0_copy_138 : decode cX0_copy 138 = .ok (.iload_n 1, 1) := by decide +kernel
theorem dX0_copy_139 : decode cX0_copy 139 = .ok (.iaload, 1) := by decide +kernel
theorem dX0_copy_140 : decode cX0_copy 140 = .ok (.iload 5, 2) := by decide +kernel
theorem dX0_copy_142 : decode cX0_copy 142 = .ok (.iconst 1, 1) := by decide +kernel
theorem dX0_copy_143 : decode cX0_copy 143 = .ok (.iadd, 1) := by decide +kernel
theorem dX0_copy_144 : decode cX0_copy 144 = .ok (.iastore, 1) := by decide +kernel
theorem dX0_copy_145 : decode cX0_copy 145 = .ok (.iinc 5 1, 3) := by decide +kernel
theorem dX0_copy_148 : decode cX0_copy 148 = .ok (.goto (-72), 3) := by decide +kernel
theorem dX0_copy_151 : decode cX0_copy 151 = .ok (.iload 4, 2) := by decide +kernel
theorem dX0_copy_153 : decode cX0_copy 153 = .ok (.ireturn, 1) := by decide +kernel
theorem dX0_fsync_0 : decode cX0_fsync 0 = .ok (.aload_n 0, 1) := by decide +kernel
theorem dX0_fsync_1 : decode cX0_fsync 1 = .ok (.iload_n 1, 1) := by decide +kernel
theorem dX0_fsync_2 : decode cX0_fsync 2 = .ok (.invokevirtual 87, 3) := by decide +kernel
theorem dX0_fsync_5 : decode cX0_fsync 5 = .ok (.ifCond .eq 5, 3) := by decide +kernel
theorem dX0_fsync_8 : decode cX0_fsync 8 = .ok (.iconst (-1), 1) := by decide +kernel
theorem dX0_fsync_9 : decode cX0_fsync 9 = .ok (.ireturn, 1) := by decide +kernel
theorem dX0_fsync_10 : decode cX0_fsync 10 = .ok (.aload_n 0, 1) := by decide +kernel
theorem dX0_fsync_11 : decode cX0_fsync 11 = .ok (.getfield 40, 3) := by decide +kernel
theorem dX0_fsync_14 : decode cX0_fsync 14 = .ok (.iload_n 1, 1) := by decide +kernel
theorem dX0_fsync_15 : decode cX0_fsync 15 = .ok (.iaload, 1) := by decide +kernel
theorem dX0_fsync_16 : decode cX0_fsync 16 = .ok (.istore_n 2, 1) := by decide +kernel
theorem dX0_fsync_17 : decode cX0_fsync 17 = .ok (.iload_n 2, 1) := by decide +kernel
theorem dX0_fsync_18 : decode cX0_fsync 18 = .ok (.iconst (-1), 1) := by decide +kernel
theorem dX0_fsync_19 : decode cX0_fsync 19 = .ok (.if_icmp .ne 6, 3) := by decide +kernel
theorem dX0_fsync_22 : decode cX0_fsync 22 = .ok (.bipush (-3), 2) := by decide +kernel
theorem dX0_fsync_24 : decode cX0_fsync 24 = .ok (.ireturn, 1) := by decide +kernel
theorem dX0_fsync_25 : decode cX0_fsync 25 = .ok (.aload_n 0, 1) := by decide +kernel
theorem dX0_fsync_26 : decode cX0_fsync 26 = .ok (.getfield 46, 3) := by decide +kernel
theorem dX0_fsync_29 : decode cX0_fsync 29 = .ok (.iload_n 1, 1) := by decide +kernel
theorem dX0_fsync_30 : decode cX0_fsync 30 = .ok (.baload, 1) := by decide +kernel
theorem dX0_fsync_31 : decode cX0_fsync 31 = .ok (.ifCond .eq 9, 3) := by decide +kernel
theorem dX0_fsync_34 : decode cX0_fsync 34 = .ok (.aload_n 0, 1) := by decide +kernel
theorem dX0_fsync_35 : decode cX0_fsync 35 = .ok (.invokevirtual 57, 3) := by decide +kernel
theorem dX0_fsync_38 : decode cX0_fsync 38 = .ok (.iconst 1, 1) := by decide +kernel
theorem dX0_fsync_39 : decode cX0_fsync 39 = .ok (.ireturn, 1) := by decide +kernel
theorem dX0_fsync_40 : decode cX0_fsync 40 = .ok (.aload_n 0, 1) := by decide +kernel
theorem dX0_fsync_41 : decode cX0_fsync 41 = .ok (.getfield 67, 3) := by decide +kernel
theorem dX0_fsync_44 : decode cX0_fsync 44 = .ok (.bipush 20, 2) := by decide +kernel
theorem dX0_fsync_46 : decode cX0_fsync 46 = .ok (.if_icmp .ne 7, 3) := by decide +kernel
theorem dX0_fsync_49 : decode cX0_fsync 49 = .ok (.aload_n 0, 1) := by decide +kernel
theorem dX0_fsync_50 : decode cX0_fsync 50 = .ok (.invokevirtual 84, 3) := by decide +kernel
theorem dX0_fsync_53 : decode cX0_fsync 53 = .ok (.aload_n 0, 1) := by decide +kernel
theorem dX0_fsync_54 : decode cX0_fsync 54 = .ok (.getfield 53, 3) := by decide +kernel
theorem dX0_fsync_57 : decode cX0_fsync 57 = .ok (.istore_n 3, 1) := by decide +kernel
theorem dX0_fsync_58 : decode cX0_fsync 58 = .ok (.aload_n 0, 1) := by decide +kernel
theorem dX0_fsync_59 : decode cX0_fsync 59 = .ok (.getfield 13, 3) := by decide +kernel
theorem dX0_fsync_62 : decode cX0_fsync 62 = .ok (.iload_n 3, 1) := by decide +kernel
theorem dX0_fsync_63 : decode cX0_fsync 63 = .ok (.iload_n 1, 1) := by decide +kernel
theorem dX0_fsync_64 : decode cX0_fsync 64 = .ok (.iastore, 1) := by decide +kernel
theorem dX0_fsync_65 : decode cX0_fsync 65 = .ok (.aload_n 0, 1) := by decide +kernel
theorem dX0_fsync_66 : decode cX0_fsync 66 = .ok (.getfield 16, 3) := by decide +kernel
theorem dX0_fsync_69 : decode cX0_fsync 69 = .ok (.iload_n 3, 1) := by decide +kernel
theorem dX0_fsync_70 : decode cX0_fsync 70 = .ok (.aload_n 0, 1) := by decide +kernel
theorem dX0_fsync_71 : decode cX0_fsync 71 = .ok (.getfield 16, 3) := by decide +kernel
theorem dX0_fsync_74 : decode cX0_fsync 74 = .ok (.iload_n 2, 1) := by decide +kernel
theorem dX0_fsync_75 : decode cX0_fsync 75 = .ok (.iaload, 1) := by decide +kernel
theorem dX0_fsync_76 : decode cX0_fsync 76 = .ok (.iastore, 1) := by decide +kernel
theorem dX0_fsync_77 : decode cX0_fsync 77 = .ok (.iconst 0, 1) := by decide +kernel
theorem dX0_fsync_78 : decode cX0_fsync 78 = .ok (.istore 4, 2) := by decide +kernel
theorem dX0_fsync_80 : decode cX0_fsync 80 = .ok (.iload 4, 2) := by decide +kernel
theorem dX0_fsync_82 : decode cX0_fsync 82 = .ok (.iconst 4, 1) := by decide +kernel
theorem dX0_fsync_83 : decode cX0_fsync 83 = .ok (.if_icmp .ge 31, 3) := by decide +kernel
theorem dX0_fsync_86 : decode cX0_fsync 86 = .ok (.aload_n 0, 1) := by decide +kernel
theorem dX0_fsync_87 : decode cX0_fsync 87 = .ok (.getfield 19, 3) := by decide +kernel
theorem dX0_fsync_90 : decode cX0_fsync 90 = .ok (.iload_n 3, 1) := by decide +kernel
theorem dX0_fsync_91 : decode cX0_fsync 91 = .ok (.iconst 4, 1) := by decide +kernel
theorem dX0_fsync_92 : decode cX0_fsync 92 = .ok (.imul, 1) := by decide +kernel
theorem dX0_fsync_93 : decode cX0_fsync 93 = .ok (.iload 4, 2) := by decide +kernel
theorem dX0_fsync_95 : decode cX0_fsync 95 = .ok (.iadd, 1) := by decide +kernel
theorem dX0_fsync_96 : decode cX0_fsync 96 = .ok (.aload_n 0, 1) := by decide +kernel
theorem dX0_fsync_97 : decode cX0_fsync 97 = .ok (.getfield 19, 3) := by decide +kernel
theorem dX0_fsync_100 : decode cX0_fsync 100 = .ok (.iload_n 2, 1) := by decide +kernel
theorem dX0_fsync_101 : decode cX0_fsync 101 = .ok (.iconst 4, 1) := by decide +kernel
theorem dX0_fsync_102 : decode cX0_fsync 102 = .ok (.imul, 1) := by decide +kernel
theorem dX0_fsync_103 : decode cX0_fsync 103 = .ok (.iload 4, 2) := by decide +kernel
theorem dX0_fsync_105 : decode cX0_fsync 105 = .ok (.iadd, 1) := by decide +kernel
theorem dX0_fsync_106 : decode cX0_fsync 106 = .ok (.iaload, 1) := by decide +kernel
theorem dX0_fsync_107 : decode cX0_fsync 107 = .ok (.iastore, 1) := by decide +kernel
theorem dX0_fsync_108 : decode cX0_fsync 108 = .ok (.iinc 4 1, 3) := by decide +kernel
theorem dX0_fsync_111 : decode cX0_fsync 111 = .ok (.goto (-31), 3) := by decide +kernel
theorem dX0_fsync_114 : decode cX0_fsync 114 = .ok (.aload_n 0, 1) := by decide +kernel
theorem dX0_fsync_115 : decode cX0_fsync 115 = .ok (.getfield 40, 3) := by decide +kernel
theorem dX0_fsync_118 : decode cX0_fsync 118 = .ok (.iload_n 1, 1) := by decide +kernel
theorem dX0_fsync_119 : decode cX0_fsync 119 = .ok (.iload_n 3, 1) := by decide +kernel
theorem dX0_fsync_120 : decode cX0_fsync 120 = .ok (.iastore, 1) := by decide +kernel
theorem dX0_fsync_121 : decode cX0_fsync 121 = .ok (.aload_n 0, 1) := by decide +kernel
theorem dX0_fsync_122 : decode cX0_fsync 122 = .ok (.getfield 43, 3) := by decide +kernel
theorem dX0_fsync_125 : decode cX0_fsync 125 = .ok (.iload_n 1, 1) := by decide +kernel
theorem dX0_fsync_126 : decode cX0_fsync 126 = .ok (.iload_n 3, 1) := by decide +kernel
theorem dX0_fsync_127 : decode cX0_fsync 127 = .ok (.iastore, 1) := by decide +kernel
theorem dX0_fsync_128 : decode cX0_fsync 128 = .ok (.aload_n 0, 1) := by decide +kernel
theorem dX0_fsync_129 : decode cX0_fsync 129 = .ok (.aload_n 0, 1) := by decide +kernel
theorem dX0_fsync_130 : decode cX0_fsync 130 = .ok (.invokevirtual 80, 3) := by decide +kernel
theorem dX0_fsync_133 : decode cX0_fsync 133 = .ok (.putfield 53, 3) := by decide +kernel
theorem dX0_fsync_136 : decode cX0_fsync 136 = .ok (.aload_n 0, 1) := by decide +kernel
theorem dX0_fsync_137 : decode cX0_fsync 137 = .ok (.getfield 25, 3) := by decide +kernel
theorem dX0_fsync_140 : decode cX0_fsync 140 = .ok (.iload_n 3, 1) := by decide +kernel
theorem dX0_fsync_141 : decode cX0_fsync 141 = .ok (.aload_n 0, 1) := by decide +kernel
theorem dX0_fsync_142 : decode cX0_fsync 142 = .ok (.getfield 53, 3) := by decide +kernel
theorem dX0_fsync_145 : decode cX0_fsync 145 = .ok (.iastore, 1) := by decide +kernel
theorem dX0_fsync_146 : decode cX0_fsync 146 = .ok (.aload_n 0, 1) := by decide +kernel
theorem dX0_fsync_147 : decode cX0_fsync 147 = .ok (.getfield 22, 3) := by decide +kernel
theorem dX0_fsync_150 : decode cX0_fsync 150 = .ok (.iload_n 3, 1) := by decide +kernel
theorem dX0_fsync_151 : decode cX0_fsync 151 = .ok (.aload_n 0, 1) := by decide +kernel
theorem dX0_fsync_152 : decode cX0_fsync 152 = .ok (.getfield 64, 3) := by decide +kernel
theorem dX0_fsync_155 : decode cX0_fsync 155 = .ok (.iastore, 1) := by decide +kernel
theorem dX0_fsync_156 : decode cX0_fsync 156 = .ok (.aload_n 0, 1) := by decide +kernel
theorem dX0_fsync_157 : decode cX0_fsync 157 = .ok (.dup, 1) := by decide +kernel
theorem dX0_fsync_158 : decode cX0_fsync 158 = .ok (.getfield 67, 3) := by decide +kernel
theorem dX0_fsync_161 : decode cX0_fsync 161 = .ok (.iconst 1, 1) := by decide +kernel
theorem dX0_fsync_162 : decode cX0_fsync 162 = .ok (.iadd, 1) := by decide +kernel
theorem dX0_fsync_163 : decode cX0_fsync 163 = .ok (.putfield 67, 3) := by decide +kernel
theorem dX0_fsync_166 : decode cX0_fsync 166 = .ok (.iconst 0, 1) := by decide +kernel
theorem dX0_fsync_167 : decode cX0_fsync 167 = .ok (.ireturn, 1) := by decide +kernel
theorem dX0_sync_0 : decode cX0_sync 0 = .ok (.aload_n 0, 1) := by decide +kernel
theorem dX0_sync_1 : decode cX0_sync 1 = .ok (.invokevirtual 57, 3) := by decide +kernel
theorem dX0_sync_4 : decode cX0_sync 4 = .ok (.aload_n 0, 1) := by decide +kernel
theorem dX0_sync_5 : decode cX0_sync 5 = .ok (.invokevirtual 95, 3) := by decide +kernel
theorem dX0_sync_8 : decode cX0_sync 8 = .ok (.ireturn, 1) := by decide +kernel
theorem dX0_count_0 : decode cX0_count 0 = .ok (.iconst 0, 1) := by decide +kernel
theorem dX0_count_1 : decode cX0_count 1 = .ok (.istore_n 1, 1) := by decide +kernel
theorem dX0_count_2 : decode cX0_count 2 = .ok (.iconst 0, 1) := by decide +kernel
theorem dX0_count_3 : decode cX0_count 3 = .ok (.istore_n 2, 1) := by decide +kernel
theorem dX0_count_4 : decode cX0_count 4 = .ok (.iload_n 2, 1) := by decide +kernel
theorem dX0_count_5 : decode cX0_count 5 = .ok (.bipush 6, 2) := by decide +kernel
theorem dX0_count_7 : decode cX0_count 7 = .ok (.if_icmp .ge 22, 3) := by decide +kernel
theorem dX0_count_10 : decode cX0_count 10 = .ok (.aload_n 0, 1) := by decide +kernel
theorem dX0_count_11 : decode cX0_count 11 = .ok (.getfield 40, 3) := by decide +kernel
theorem dX0_count_14 : decode cX0_count 14 = .ok (.iload_n 2, 1) := by decide +kernel
theorem dX0_count_15 : decode cX0_count 15 = .ok (.iaload, 1) := by decide +kernel
theorem dX0_count_16 : decode cX0_count 16 = .ok (.iconst (-1), 1) := by decide +kernel
theorem dX0_count_17 : decode cX0_count 17 = .ok (.if_icmp .eq 6, 3) := by decide +kernel
theorem dX0_count_20 : decode cX0_count 20 = .ok (.iinc 1 1, 3) := by decide +kernel
theorem dX0_count_23 : decode cX0_count 23 = .ok (.iinc 2 1, 3) := by decide +kernel
theorem dX0_count_26 : decode cX0_count 26 = .ok (.goto (-22), 3) := by decide +kernel
theorem dX0_count_29 : decode cX0_count 29 = .ok (.iload_n 1, 1) := by decide +kernel
theorem dX0_count_30 : decode cX0_count 30 = .ok (.ireturn, 1) := by decide +kernel
theorem dX0_crash_0 : decode cX0_crash 0 = .ok (.aload_n 0, 1) := by decide +kernel
theorem dX0_crash_1 : decode cX0_crash 1 = .ok (.invokevirtual 98, 3) := by decide +kernel
theorem dX0_crash_4 : decode cX0_crash 4 = .ok (.aload_n 0, 1) := by decide +kernel
theorem dX0_crash_5 : decode cX0_crash 5 = .ok (.invokevirtual 95, 3) := by decide +kernel
theorem dX0_crash_8 : decode cX0_crash 8 = .ok (.ireturn, 1) := by decide +kernel
theorem dX0_mount_0 : decode cX0_mount 0 = .ok (.iconst 0, 1) := by decide +kernel
theorem dX0_mount_1 : decode cX0_mount 1 = .ok (.istore_n 1, 1) := by decide +kernel
theorem dX0_mount_2 : decode cX0_mount 2 = .ok (.aload_n 0, 1) := by decide +kernel
theorem dX0_mount_3 : decode cX0_mount 3 = .ok (.getfield 28, 3) := by decide +kernel
theorem dX0_mount_6 : decode cX0_mount 6 = .ok (.iconst 1, 1) := by decide +kernel
theorem dX0_mount_7 : decode cX0_mount 7 = .ok (.iaload, 1) := by decide +kernel
theorem dX0_mount_8 : decode cX0_mount 8 = .ok (.aload_n 0, 1) := by decide +kernel
theorem dX0_mount_9 : decode cX0_mount 9 = .ok (.getfield 31, 3) := by decide +kernel
theorem dX0_mount_12 : decode cX0_mount 12 = .ok (.iconst 1, 1) := by decide +kernel
theorem dX0_mount_13 : decode cX0_mount 13 = .ok (.iaload, 1) := by decide +kernel
theorem dX0_mount_14 : decode cX0_mount 14 = .ok (.if_icmp .ne 35, 3) := by decide +kernel
theorem dX0_mount_17 : decode cX0_mount 17 = .ok (.aload_n 0, 1) := by decide +kernel
theorem dX0_mount_18 : decode cX0_mount 18 = .ok (.getfield 28, 3) := by decide +kernel
theorem dX0_mount_21 : decode cX0_mount 21 = .ok (.iconst 0, 1) := by decide +kernel
theorem dX0_mount_22 : decode cX0_mount 22 = .ok (.iaload, 1) := by decide +kernel
theorem dX0_mount_23 : decode cX0_mount 23 = .ok (.aload_n 0, 1) := by decide +kernel
theorem dX0_mount_24 : decode cX0_mount 24 = .ok (.getfield 31, 3) := by decide +kernel
theorem dX0_mount_27 : decode cX0_mount 27 = .ok (.iconst 0, 1) := by decide +kernel
theorem dX0_mount_28 : decode cX0_mount 28 = .ok (.iaload, 1) := by decide +kernel
theorem dX0_mount_29 : decode cX0_mount 29 = .ok (.if_icmp .ne 18, 3) := by decide +kernel
theorem dX0_mount_32 : decode cX0_mount 32 = .ok (.aload_n 0, 1) := by decide +kernel
theorem dX0_mount_33 : decode cX0_mount 33 = .ok (.getfield 31, 3) := by decide +kernel
theorem dX0_mount_36 : decode cX0_mount 36 = .ok (.iconst 1, 1) := by decide +kernel
theorem dX0_mount_37 : decode cX0_mount 37 = .ok (.iaload, 1) := by decide +kernel
theorem dX0_mount_38 : decode cX0_mount 38 = .ok (.aload_n 0, 1) := by decide +kernel
theorem dX0_mount_39 : decode cX0_mount 39 = .ok (.getfield 31, 3) := by decide +kernel
theorem dX0_mount_42 : decode cX0_mount 42 = .ok (.iconst 0, 1) := by decide +kernel
theorem dX0_mount_43 : decode cX0_mount 43 = .ok (.iaload, 1) := by decide +kernel
theorem dX0_mount_44 : decode cX0_mount 44 = .ok (.if_icmp .le 5, 3) := by decide +kernel
theorem dX0_mount_47 : decode cX0_mount 47 = .ok (.iconst 1, 1) := by decide +kernel
theorem dX0_mount_48 : decode cX0_mount 48 = .ok (.istore_n 1, 1) := by decide +kernel
theorem dX0_mount_49 : decode cX0_mount 49 = .ok (.aload_n 0, 1) := by decide +kernel
theorem dX0_mount_50 : decode cX0_mount 50 = .ok (.aload_n 0, 1) := by decide +kernel
theorem dX0_mount_51 : decode cX0_mount 51 = .ok (.getfield 31, 3) := by decide +kernel
theorem dX0_mount_54 : decode cX0_mount 54 = .ok (.iload_n 1, 1) := by decide +kernel
theorem dX0_mount_55 : decode cX0_mount 55 = .ok (.iaload, 1) := by decide +kernel
theorem dX0_mount_56 : decode cX0_mount 56 = .ok (.putfield 64, 3) := by decide +kernel
theorem dX0_mount_59 : decode cX0_mount 59 = .ok (.iconst 0, 1) := by decide +kernel
theorem dX0_mount_60 : decode cX0_mount 60 = .ok (.istore_n 2, 1) := by decide +kernel
theorem dX0_mount_61 : decode cX0_mount 61 = .ok (.iload_n 2, 1) := by decide +kernel
theorem dX0_mount_62 : decode cX0_mount 62 = .ok (.bipush 6, 2) := by decide +kernel
theorem dX0_mount_64 : decode cX0_mount 64 = .ok (.if_icmp .ge 33, 3) := by decide +kernel
theorem dX0_mount_67 : decode cX0_mount 67 = .ok (.aload_n 0, 1) := by decide +kernel
theorem dX0_mount_68 : decode cX0_mount 68 = .ok (.getfield 40, 3) := by decide +kernel
theorem dX0_mount_71 : decode cX0_mount 71 = .ok (.iload_n 2, 1) := by decide +kernel
theorem dX0_mount_72 : decode cX0_mount 72 = .ok (.aload_n 0, 1) := by decide +kernel
theorem dX0_mount_73 : decode cX0_mount 73 = .ok (.getfield 34, 3) := by decide +kernel
theorem dX0_mount_76 : decode cX0_mount 76 = .ok (.iload_n 1, 1) := by decide +kernel
theorem dX0_mount_77 : decode cX0_mount 77 = .ok (.bipush 6, 2) := by decide +kernel
theorem dX0_mount_79 : decode cX0_mount 79 = .ok (.imul, 1) := by decide +kernel
theorem dX0_mount_80 : decode cX0_mount 80 = .ok (.iload_n 2, 1) := by decide +kernel
theorem dX0_mount_81 : decode cX0_mount 81 = .ok (.iadd, 1) := by decide +kernel
theorem dX0_mount_82 : decode cX0_mount 82 = .ok (.iaload, 1) := by decide +kernel
theorem dX0_mount_83 : decode cX0_mount 83 = .ok (.iastore, 1) := by decide +kernel
theorem dX0_mount_84 : decode cX0_mount 84 = .ok (.aload_n 0, 1) := by decide +kernel
theorem dX0_mount_85 : decode cX0_mount 85 = .ok (.getfield 46, 3) := by decide +kernel
theorem dX0_mount_88 : decode cX0_mount 88 = .ok (.iload_n 2, 1) := by decide +kernel
theorem dX0_mount_89 : decode cX0_mount 89 = .ok (.iconst 0, 1) := by decide +kernel
theorem dX0_mount_90 : decode cX0_mount 90 = .ok (.bastore, 1) := by decide +kernel
theorem dX0_mount_91 : decode cX0_mount 91 = .ok (.iinc 2 1, 3) := by decide +kernel
theorem dX0_mount_94 : decode cX0_mount 94 = .ok (.goto (-33), 3) := by decide +kernel
theorem dX0_mount_97 : decode cX0_mount 97 = .ok (.aload_n 0, 1) := by decide +kernel
theorem dX0_mount_98 : decode cX0_mount 98 = .ok (.aload_n 0, 1) := by decide +kernel
theorem dX0_mount_99 : decode cX0_mount 99 = .ok (.getfield 37, 3) := by decide +kernel
theorem dX0_mount_102 : decode cX0_mount 102 = .ok (.iload_n 1, 1) := by decide +kernel
theorem dX0_mount_103 : decode cX0_mount 103 = .ok (.iaload, 1) := by decide +kernel
theorem dX0_mount_104 : decode cX0_mount 104 = .ok (.putfield 53, 3) := by decide +kernel
theorem dX0_mount_107 : decode cX0_mount 107 = .ok (.aload_n 0, 1) := by decide +kernel
theorem dX0_mount_108 : decode cX0_mount 108 = .ok (.iconst 0, 1) := by decide +kernel
theorem dX0_mount_109 : decode cX0_mount 109 = .ok (.putfield 67, 3) := by decide +kernel
theorem dX0_mount_112 : decode cX0_mount 112 = .ok (.iconst 0, 1) := by decide +kernel
theorem dX0_mount_113 : decode cX0_mount 113 = .ok (.istore_n 2, 1) := by decide +kernel
theorem dX0_mount_114 : decode cX0_mount 114 = .ok (.iload_n 2, 1) := by decide +kernel
theorem dX0_mount_115 : decode cX0_mount 115 = .ok (.bipush 20, 2) := by decide +kernel
theorem dX0_mount_117 : decode cX0_mount 117 = .ok (.if_icmp .ge 66, 3) := by decide +kernel
theorem dX0_mount_120 : decode cX0_mount 120 = .ok (.aload_n 0, 1) := by decide +kernel
theorem dX0_mount_121 : decode cX0_mount 121 = .ok (.getfield 22, 3) := by decide +kernel
theorem dX0_mount_124 : decode cX0_mount 124 = .ok (.aload_n 0, 1) := by decide +kernel
theorem dX0_mount_125 : decode cX0_mount 125 = .ok (.getfield 53, 3) := by decide +kernel
theorem dX0_mount_128 : decode cX0_mount 128 = .ok (.iaload, 1) := by decide +kernel
theorem dX0_mount_129 : decode cX0_mount 129 = .ok (.aload_n 0, 1) := by decide +kernel
theorem dX0_mount_130 : decode cX0_mount 130 = .ok (.getfield 64, 3) := by decide +kernel
theorem dX0_mount_133 : decode cX0_mount 133 = .ok (.if_icmp .ne 50, 3) := by decide +kernel
theorem dX0_mount_136 : decode cX0_mount 136 = .ok (.aload_n 0, 1) := by decide +kernel
theorem dX0_mount_137 : decode cX0_mount 137 = .ok (.getfield 40, 3) := by decide +kernel
theorem dX0_mount_140 : decode cX0_mount 140 = .ok (.aload_n 0, 1) := by decide +kernel
theorem dX0_mount_141 : decode cX0_mount 141 = .ok (.getfield 13, 3) := by decide +kernel
theorem dX0_mount_144 : decode cX0_mount 144 = .ok (.aload_n 0, 1) := by decide +kernel
theorem dX0_mount_145 : decode cX0_mount 145 = .ok (.getfield 53, 3) := by decide +kernel
theorem dX0_mount_148 : decode cX0_mount 148 = .ok (.iaload, 1) := by decide +kernel
theorem dX0_mount_149 : decode cX0_mount 149 = .ok (.aload_n 0, 1) := by decide +kernel
theorem dX0_mount_150 : decode cX0_mount 150 = .ok (.getfield 53, 3) := by decide +kernel
theorem dX0_mount_153 : decode cX0_mount 153 = .ok (.iastore, 1) := by decide +kernel
theorem dX0_mount_154 : decode cX0_mount 154 = .ok (.aload_n 0, 1) := by decide +kernel
theorem dX0_mount_155 : decode cX0_mount 155 = .ok (.aload_n 0, 1) := by decide +kernel
theorem dX0_mount_156 : decode cX0_mount 156 = .ok (.getfield 25, 3) := by decide +kernel
theorem dX0_mount_159 : decode cX0_mount 159 = .ok (.aload_n 0, 1) := by decide +kernel
theorem dX0_mount_160 : decode cX0_mount 160 = .ok (.getfield 53, 3) := by decide +kernel
theorem dX0_mount_163 : decode cX0_mount 163 = .ok (.iaload, 1) := by decide +kernel
theorem dX0_mount_164 : decode cX0_mount 164 = .ok (.putfield 53, 3) := by decide +kernel
theorem dX0_mount_167 : decode cX0_mount 167 = .ok (.aload_n 0, 1) := by decide +kernel
theorem dX0_mount_168 : decode cX0_mount 168 = .ok (.dup, 1) := by decide +kernel
theorem dX0_mount_169 : decode cX0_mount 169 = .ok (.getfield 67, 3) := by decide +kernel
theorem dX0_mount_172 : decode cX0_mount 172 = .ok (.iconst 1, 1) := by decide +kernel
theorem dX0_mount_173 : decode cX0_mount 173 = .ok (.iadd, 1) := by decide +kernel
theorem dX0_mount_174 : decode cX0_mount 174 = .ok (.putfield 67, 3) := by decide +kernel
theorem dX0_mount_177 : decode cX0_mount 177 = .ok (.iinc 2 1, 3) := by decide +kernel
theorem dX0_mount_180 : decode cX0_mount 180 = .ok (.goto (-66), 3) := by decide +kernel
theorem dX0_mount_183 : decode cX0_mount 183 = .ok (.iconst 0, 1) := by decide +kernel
theorem dX0_mount_184 : decode cX0_mount 184 = .ok (.istore_n 2, 1) := by decide +kernel
theorem dX0_mount_185 : decode cX0_mount 185 = .ok (.iload_n 2, 1) := by decide +kernel
theorem dX0_mount_186 : decode cX0_mount 186 = .ok (.bipush 6, 2) := by decide +kernel
theorem dX0_mount_188 : decode cX0_mount 188 = .ok (.if_icmp .ge 21, 3) := by decide +kernel
theorem dX0_mount_191 : decode cX0_mount 191 = .ok (.aload_n 0, 1) := by decide +kernel
theorem dX0_mount_192 : decode cX0_mount 192 = .ok (.getfield 43, 3) := by decide +kernel
theorem dX0_mount_195 : decode cX0_mount 195 = .ok (.iload_n 2, 1) := by decide +kernel
theorem dX0_mount_196 : decode cX0_mount 196 = .ok (.aload_n 0, 1) := by decide +kernel
theorem dX0_mount_197 : decode cX0_mount 197 = .ok (.getfield 40, 3) := by decide +kernel
theorem dX0_mount_200 : decode cX0_mount 200 = .ok (.iload_n 2, 1) := by decide +kernel
theorem dX0_mount_201 : decode cX0_mount 201 = .ok (.iaload, 1) := by decide +kernel
theorem dX0_mount_202 : decode cX0_mount 202 = .ok (.iastore, 1) := by decide +kernel
theorem dX0_mount_203 : decode cX0_mount 203 = .ok (.iinc 2 1, 3) := by decide +kernel
theorem dX0_mount_206 : decode cX0_mount 206 = .ok (.goto (-21), 3) := by decide +kernel
theorem dX0_mount_209 : decode cX0_mount 209 = .ok (.return_, 1) := by decide +kernel
theorem dX0_exists_0 : decode cX0_exists 0 = .ok (.aload_n 0, 1) := by decide +kernel
theorem dX0_exists_1 : decode cX0_exists 1 = .ok (.iload_n 1, 1) := by decide +kernel
theorem dX0_exists_2 : decode cX0_exists 2 = .ok (.invokevirtual 87, 3) := by decide +kernel
theorem dX0_exists_5 : decode cX0_exists 5 = .ok (.ifCond .ne 17, 3) := by decide +kernel
theorem dX0_exists_8 : decode cX0_exists 8 = .ok (.aload_n 0, 1) := by decide +kernel
end
section
set_option maxRecDepth 100000
theorem dX0_exists_9 : decode cX0_exists 9 = .ok (.getfield 40, 3) := by decide +kernel
theorem dX0_exists_12 : decode cX0_exists 12 = .ok (.iload_n 1, 1) := by decide +kernel
theorem dX0_exists_13 : decode cX0_exists 13 = .ok (.iaload, 1) := by decide +kernel
theorem dX0_exists_14 : decode cX0_exists 14 = .ok (.iconst (-1), 1) := by decide +kernel
theorem dX0_exists_15 : decode cX0_exists 15 = .ok (.if_icmp .eq 7, 3) := by decide +kernel
theorem dX0_exists_18 : decode cX0_exists 18 = .ok (.iconst 1, 1) := by decide +kernel
theorem dX0_exists_19 : decode cX0_exists 19 = .ok (.goto 4, 3) := by decide +kernel
theorem dX0_exists_22 : decode cX0_exists 22 = .ok (.iconst 0, 1) := by decide +kernel
theorem dX0_exists_23 : decode cX0_exists 23 = .ok (.ireturn, 1) := by decide +kernel
theorem dX0_size_0 : decode cX0_size 0 = .ok (.aload_n 0, 1) := by decide +kernel
theorem dX0_size_1 : decode cX0_size 1 = .ok (.iload_n 1, 1) := by decide +kernel
theorem dX0_size_2 : decode cX0_size 2 = .ok (.invokevirtual 87, 3) := by decide +kernel
theorem dX0_size_5 : decode cX0_size 5 = .ok (.ifCond .eq 5, 3) := by decide +kernel
theorem dX0_size_8 : decode cX0_size 8 = .ok (.iconst (-1), 1) := by decide +kernel
theorem dX0_size_9 : decode cX0_size 9 = .ok (.ireturn, 1) := by decide +kernel
theorem dX0_size_10 : decode cX0_size 10 = .ok (.aload_n 0, 1) := by decide +kernel
theorem dX0_size_11 : decode cX0_size 11 = .ok (.getfield 40, 3) := by decide +kernel
theorem dX0_size_14 : decode cX0_size 14 = .ok (.iload_n 1, 1) := by decide +kernel
theorem dX0_size_15 : decode cX0_size 15 = .ok (.iaload, 1) := by decide +kernel
theorem dX0_size_16 : decode cX0_size 16 = .ok (.iconst (-1), 1) := by decide +kernel
theorem dX0_size_17 : decode cX0_size 17 = .ok (.if_icmp .ne 8, 3) := by decide +kernel
theorem dX0_size_20 : decode cX0_size 20 = .ok (.bipush (-3), 2) := by decide +kernel
theorem dX0_size_22 : decode cX0_size 22 = .ok (.goto 14, 3) := by decide +kernel
theorem dX0_size_25 : decode cX0_size 25 = .ok (.aload_n 0, 1) := by decide +kernel
theorem dX0_size_26 : decode cX0_size 26 = .ok (.getfield 16, 3) := by decide +kernel
theorem dX0_size_29 : decode cX0_size 29 = .ok (.aload_n 0, 1) := by decide +kernel
theorem dX0_size_30 : decode cX0_size 30 = .ok (.getfield 40, 3) := by decide +kernel
theorem dX0_size_33 : decode cX0_size 33 = .ok (.iload_n 1, 1) := by decide +kernel
theorem dX0_size_34 : decode cX0_size 34 = .ok (.iaload, 1) := by decide +kernel
theorem dX0_size_35 : decode cX0_size 35 = .ok (.iaload, 1) := by decide +kernel
theorem dX0_size_36 : decode cX0_size 36 = .ok (.ireturn, 1) := by decide +kernel
theorem dX0_read_0 : decode cX0_read 0 = .ok (.aload_n 0, 1) := by decide +kernel
theorem dX0_read_1 : decode cX0_read 1 = .ok (.iload_n 1, 1) := by decide +kernel
theorem dX0_read_2 : decode cX0_read 2 = .ok (.invokevirtual 87, 3) := by decide +kernel
theorem dX0_read_5 : decode cX0_read 5 = .ok (.ifCond .ne 32, 3) := by decide +kernel
theorem dX0_read_8 : decode cX0_read 8 = .ok (.aload_n 0, 1) := by decide +kernel
theorem dX0_read_9 : decode cX0_read 9 = .ok (.getfield 40, 3) := by decide +kernel
theorem dX0_read_12 : decode cX0_read 12 = .ok (.iload_n 1, 1) := by decide +kernel
theorem dX0_read_13 : decode cX0_read 13 = .ok (.iaload, 1) := by decide +kernel
theorem dX0_read_14 : decode cX0_read 14 = .ok (.iconst (-1), 1) := by decide +kernel
theorem dX0_read_15 : decode cX0_read 15 = .ok (.if_icmp .eq 22, 3) := by decide +kernel
theorem dX0_read_18 : decode cX0_read 18 = .ok (.iload_n 2, 1) := by decide +kernel
theorem dX0_read_19 : decode cX0_read 19 = .ok (.ifCond .lt 18, 3) := by decide +kernel
theorem dX0_read_22 : decode cX0_read 22 = .ok (.iload_n 2, 1) := by decide +kernel
theorem dX0_read_23 : decode cX0_read 23 = .ok (.aload_n 0, 1) := by decide +kernel
theorem dX0_read_24 : decode cX0_read 24 = .ok (.getfield 16, 3) := by decide +kernel
theorem dX0_read_27 : decode cX0_read 27 = .ok (.aload_n 0, 1) := by decide +kernel
theorem dX0_read_28 : decode cX0_read 28 = .ok (.getfield 40, 3) := by decide +kernel
theorem dX0_read_31 : decode cX0_read 31 = .ok (.iload_n 1, 1) := by decide +kernel
theorem dX0_read_32 : decode cX0_read 32 = .ok (.iaload, 1) := by decide +kernel
theorem dX0_read_33 : decode cX0_read 33 = .ok (.iaload, 1) := by decide +kernel
theorem dX0_read_34 : decode cX0_read 34 = .ok (.if_icmp .lt 5, 3) := by decide +kernel
theorem dX0_read_37 : decode cX0_read 37 = .ok (.iconst 0, 1) := by decide +kernel
theorem dX0_read_38 : decode cX0_read 38 = .ok (.ireturn, 1) := by decide +kernel
theorem dX0_read_39 : decode cX0_read 39 = .ok (.aload_n 0, 1) := by decide +kernel
theorem dX0_read_40 : decode cX0_read 40 = .ok (.getfield 7, 3) := by decide +kernel
theorem dX0_read_43 : decode cX0_read 43 = .ok (.aload_n 0, 1) := by decide +kernel
theorem dX0_read_44 : decode cX0_read 44 = .ok (.getfield 19, 3) := by decide +kernel
theorem dX0_read_47 : decode cX0_read 47 = .ok (.aload_n 0, 1) := by decide +kernel
theorem dX0_read_48 : decode cX0_read 48 = .ok (.getfield 40, 3) := by decide +kernel
theorem dX0_read_51 : decode cX0_read 51 = .ok (.iload_n 1, 1) := by decide +kernel
theorem dX0_read_52 : decode cX0_read 52 = .ok (.iaload, 1) := by decide +kernel
theorem dX0_read_53 : decode cX0_read 53 = .ok (.iconst 4, 1) := by decide +kernel
theorem dX0_read_54 : decode cX0_read 54 = .ok (.imul, 1) := by decide +kernel
theorem dX0_read_55 : decode cX0_read 55 = .ok (.iload_n 2, 1) := by decide +kernel
theorem dX0_read_56 : decode cX0_read 56 = .ok (.iadd, 1) := by decide +kernel
theorem dX0_read_57 : decode cX0_read 57 = .ok (.iaload, 1) := by decide +kernel
theorem dX0_read_58 : decode cX0_read 58 = .ok (.iaload, 1) := by decide +kernel
theorem dX0_read_59 : decode cX0_read 59 = .ok (.ireturn, 1) := by decide +kernel
theorem dX0_uns_0 : decode cX0_uns 0 = .ok (.iconst 0, 1) := by decide +kernel
theorem dX0_uns_1 : decode cX0_uns 1 = .ok (.istore_n 1, 1) := by decide +kernel
theorem dX0_uns_2 : decode cX0_uns 2 = .ok (.iconst 0, 1) := by decide +kernel
theorem dX0_uns_3 : decode cX0_uns 3 = .ok (.istore_n 2, 1) := by decide +kernel
theorem dX0_uns_4 : decode cX0_uns 4 = .ok (.iload_n 2, 1) := by decide +kernel
theorem dX0_uns_5 : decode cX0_uns 5 = .ok (.bipush 6, 2) := by decide +kernel
theorem dX0_uns_7 : decode cX0_uns 7 = .ok (.if_icmp .ge 33, 3) := by decide +kernel
theorem dX0_uns_10 : decode cX0_uns 10 = .ok (.aload_n 0, 1) := by decide +kernel
theorem dX0_uns_11 : decode cX0_uns 11 = .ok (.aload_n 0, 1) := by decide +kernel
theorem dX0_uns_12 : decode cX0_uns 12 = .ok (.getfield 40, 3) := by decide +kernel
theorem dX0_uns_15 : decode cX0_uns 15 = .ok (.iload_n 2, 1) := by decide +kernel
theorem dX0_uns_16 : decode cX0_uns 16 = .ok (.iaload, 1) := by decide +kernel
theorem dX0_uns_17 : decode cX0_uns 17 = .ok (.aload_n 0, 1) := by decide +kernel
theorem dX0_uns_18 : decode cX0_uns 18 = .ok (.getfield 43, 3) := by decide +kernel
theorem dX0_uns_21 : decode cX0_uns 21 = .ok (.iload_n 2, 1) := by decide +kernel
theorem dX0_uns_22 : decode cX0_uns 22 = .ok (.iaload, 1) := by decide +kernel
theorem dX0_uns_23 : decode cX0_uns 23 = .ok (.invokevirtual 101, 3) := by decide +kernel
theorem dX0_uns_26 : decode cX0_uns 26 = .ok (.istore_n 3, 1) := by decide +kernel
theorem dX0_uns_27 : decode cX0_uns 27 = .ok (.iload_n 3, 1) := by decide +kernel
theorem dX0_uns_28 : decode cX0_uns 28 = .ok (.ifCond .eq 6, 3) := by decide +kernel
theorem dX0_uns_31 : decode cX0_uns 31 = .ok (.iinc 1 1, 3) := by decide +kernel
theorem dX0_uns_34 : decode cX0_uns 34 = .ok (.iinc 2 1, 3) := by decide +kernel
theorem dX0_uns_37 : decode cX0_uns 37 = .ok (.goto (-33), 3) := by decide +kernel
theorem dX0_uns_40 : decode cX0_uns 40 = .ok (.iload_n 1, 1) := by decide +kernel
theorem dX0_uns_41 : decode cX0_uns 41 = .ok (.ireturn, 1) := by decide +kernel
theorem dX0_differs_0 : decode cX0_differs 0 = .ok (.iload_n 1, 1) := by decide +kernel
theorem dX0_differs_1 : decode cX0_differs 1 = .ok (.iconst (-1), 1) := by decide +kernel
theorem dX0_differs_2 : decode cX0_differs 2 = .ok (.if_icmp .eq 8, 3) := by decide +kernel
theorem dX0_differs_5 : decode cX0_differs 5 = .ok (.iload_n 2, 1) := by decide +kernel
theorem dX0_differs_6 : decode cX0_differs 6 = .ok (.iconst (-1), 1) := by decide +kernel
theorem dX0_differs_7 : decode cX0_differs 7 = .ok (.if_icmp .ne 14, 3) := by decide +kernel
theorem dX0_differs_10 : decode cX0_differs 10 = .ok (.iload_n 1, 1) := by decide +kernel
theorem dX0_differs_11 : decode cX0_differs 11 = .ok (.iload_n 2, 1) := by decide +kernel
theorem dX0_differs_12 : decode cX0_differs 12 = .ok (.if_icmp .eq 7, 3) := by decide +kernel
theorem dX0_differs_15 : decode cX0_differs 15 = .ok (.iconst 1, 1) := by decide +kernel
theorem dX0_differs_16 : decode cX0_differs 16 = .ok (.goto 4, 3) := by decide +kernel
theorem dX0_differs_19 : decode cX0_differs 19 = .ok (.iconst 0, 1) := by decide +kernel
theorem dX0_differs_20 : decode cX0_differs 20 = .ok (.ireturn, 1) := by decide +kernel
theorem dX0_differs_21 : decode cX0_differs 21 = .ok (.aload_n 0, 1) := by decide +kernel
theorem dX0_differs_22 : decode cX0_differs 22 = .ok (.getfield 16, 3) := by decide +kernel
theorem dX0_differs_25 : decode cX0_differs 25 = .ok (.iload_n 1, 1) := by decide +kernel
theorem dX0_differs_26 : decode cX0_differs 26 = .ok (.iaload, 1) := by decide +kernel
theorem dX0_differs_27 : decode cX0_differs 27 = .ok (.aload_n 0, 1) := by decide +kernel
theorem dX0_differs_28 : decode cX0_differs 28 = .ok (.getfield 16, 3) := by decide +kernel
theorem dX0_differs_31 : decode cX0_differs 31 = .ok (.iload_n 2, 1) := by decide +kernel
theorem dX0_differs_32 : decode cX0_differs 32 = .ok (.iaload, 1) := by decide +kernel
theorem dX0_differs_33 : decode cX0_differs 33 = .ok (.if_icmp .eq 5, 3) := by decide +kernel
theorem dX0_differs_36 : decode cX0_differs 36 = .ok (.iconst 1, 1) := by decide +kernel
theorem dX0_differs_37 : decode cX0_differs 37 = .ok (.ireturn, 1) := by decide +kernel
theorem dX0_differs_38 : decode cX0_differs 38 = .ok (.iconst 0, 1) := by decide +kernel
theorem dX0_differs_39 : decode cX0_differs 39 = .ok (.istore_n 3, 1) := by decide +kernel
theorem dX0_differs_40 : decode cX0_differs 40 = .ok (.iload_n 3, 1) := by decide +kernel
theorem dX0_differs_41 : decode cX0_differs 41 = .ok (.aload_n 0, 1) := by decide +kernel
theorem dX0_differs_42 : decode cX0_differs 42 = .ok (.getfield 16, 3) := by decide +kernel
theorem dX0_differs_45 : decode cX0_differs 45 = .ok (.iload_n 1, 1) := by decide +kernel
theorem dX0_differs_46 : decode cX0_differs 46 = .ok (.iaload, 1) := by decide +kernel
theorem dX0_differs_47 : decode cX0_differs 47 = .ok (.if_icmp .ge 44, 3) := by decide +kernel
theorem dX0_differs_50 : decode cX0_differs 50 = .ok (.aload_n 0, 1) := by decide +kernel
theorem dX0_differs_51 : decode cX0_differs 51 = .ok (.getfield 7, 3) := by decide +kernel
theorem dX0_differs_54 : decode cX0_differs 54 = .ok (.aload_n 0, 1) := by decide +kernel
theorem dX0_differs_55 : decode cX0_differs 55 = .ok (.getfield 19, 3) := by decide +kernel
theorem dX0_differs_58 : decode cX0_differs 58 = .ok (.iload_n 1, 1) := by decide +kernel
theorem dX0_differs_59 : decode cX0_differs 59 = .ok (.iconst 4, 1) := by decide +kernel
theorem dX0_differs_60 : decode cX0_differs 60 = .ok (.imul, 1) := by decide +kernel
theorem dX0_differs_61 : decode cX0_differs 61 = .ok (.iload_n 3, 1) := by decide +kernel
theorem dX0_differs_62 : decode cX0_differs 62 = .ok (.iadd, 1) := by decide +kernel
theorem dX0_differs_63 : decode cX0_differs 63 = .ok (.iaload, 1) := by decide +kernel
theorem dX0_differs_64 : decode cX0_differs 64 = .ok (.iaload, 1) := by decide +kernel
theorem dX0_differs_65 : decode cX0_differs 65 = .ok (.aload_n 0, 1) := by decide +kernel
theorem dX0_differs_66 : decode cX0_differs 66 = .ok (.getfield 7, 3) := by decide +kernel
theorem dX0_differs_69 : decode cX0_differs 69 = .ok (.aload_n 0, 1) := by decide +kernel
theorem dX0_differs_70 : decode cX0_differs 70 = .ok (.getfield 19, 3) := by decide +kernel
theorem dX0_differs_73 : decode cX0_differs 73 = .ok (.iload_n 2, 1) := by decide +kernel
theorem dX0_differs_74 : decode cX0_differs 74 = .ok (.iconst 4, 1) := by decide +kernel
theorem dX0_differs_75 : decode cX0_differs 75 = .ok (.imul, 1) := by decide +kernel
theorem dX0_differs_76 : decode cX0_differs 76 = .ok (.iload_n 3, 1) := by decide +kernel
theorem dX0_differs_77 : decode cX0_differs 77 = .ok (.iadd, 1) := by decide +kernel
theorem dX0_differs_78 : decode cX0_differs 78 = .ok (.iaload, 1) := by decide +kernel
theorem dX0_differs_79 : decode cX0_differs 79 = .ok (.iaload, 1) := by decide +kernel
theorem dX0_differs_80 : decode cX0_differs 80 = .ok (.if_icmp .eq 5, 3) := by decide +kernel
theorem dX0_differs_83 : decode cX0_differs 83 = .ok (.iconst 1, 1) := by decide +kernel
theorem dX0_differs_84 : decode cX0_differs 84 = .ok (.ireturn, 1) := by decide +kernel
theorem dX0_differs_85 : decode cX0_differs 85 = .ok (.iinc 3 1, 3) := by decide +kernel
theorem dX0_differs_88 : decode cX0_differs 88 = .ok (.goto (-48), 3) := by decide +kernel
theorem dX0_differs_91 : decode cX0_differs 91 = .ok (.iconst 0, 1) := by decide +kernel
theorem dX0_differs_92 : decode cX0_differs 92 = .ok (.ireturn, 1) := by decide +kernel
theorem dX0_digest_0 : decode cX0_digest 0 = .ok (.iconst 0, 1) := by decide +kernel
theorem dX0_digest_1 : decode cX0_digest 1 = .ok (.istore_n 1, 1) := by decide +kernel
theorem dX0_digest_2 : decode cX0_digest 2 = .ok (.iconst 0, 1) := by decide +kernel
theorem dX0_digest_3 : decode cX0_digest 3 = .ok (.istore_n 2, 1) := by decide +kernel
theorem dX0_digest_4 : decode cX0_digest 4 = .ok (.iload_n 2, 1) := by decide +kernel
theorem dX0_digest_5 : decode cX0_digest 5 = .ok (.bipush 6, 2) := by decide +kernel
theorem dX0_digest_7 : decode cX0_digest 7 = .ok (.if_icmp .ge 89, 3) := by decide +kernel
theorem dX0_digest_10 : decode cX0_digest 10 = .ok (.aload_n 0, 1) := by decide +kernel
theorem dX0_digest_11 : decode cX0_digest 11 = .ok (.getfield 40, 3) := by decide +kernel
theorem dX0_digest_14 : decode cX0_digest 14 = .ok (.iload_n 2, 1) := by decide +kernel
theorem dX0_digest_15 : decode cX0_digest 15 = .ok (.iaload, 1) := by decide +kernel
theorem dX0_digest_16 : decode cX0_digest 16 = .ok (.istore_n 3, 1) := by decide +kernel
theorem dX0_digest_17 : decode cX0_digest 17 = .ok (.iload_n 3, 1) := by decide +kernel
theorem dX0_digest_18 : decode cX0_digest 18 = .ok (.iconst (-1), 1) := by decide +kernel
theorem dX0_digest_19 : decode cX0_digest 19 = .ok (.if_icmp .eq 71, 3) := by decide +kernel
theorem dX0_digest_22 : decode cX0_digest 22 = .ok (.iload_n 1, 1) := by decide +kernel
theorem dX0_digest_23 : decode cX0_digest 23 = .ok (.sipush 1000, 3) := by decide +kernel
theorem dX0_digest_26 : decode cX0_digest 26 = .ok (.iload_n 2, 1) := by decide +kernel
theorem dX0_digest_27 : decode cX0_digest 27 = .ok (.iconst 1, 1) := by decide +kernel
theorem dX0_digest_28 : decode cX0_digest 28 = .ok (.iadd, 1) := by decide +kernel
theorem dX0_digest_29 : decode cX0_digest 29 = .ok (.imul, 1) := by decide +kernel
theorem dX0_digest_30 : decode cX0_digest 30 = .ok (.aload_n 0, 1) := by decide +kernel
theorem dX0_digest_31 : decode cX0_digest 31 = .ok (.getfield 16, 3) := by decide +kernel
theorem dX0_digest_34 : decode cX0_digest 34 = .ok (.iload_n 3, 1) := by decide +kernel
theorem dX0_digest_35 : decode cX0_digest 35 = .ok (.iaload, 1) := by decide +kernel
theorem dX0_digest_36 : decode cX0_digest 36 = .ok (.iconst 1, 1) := by decide +kernel
theorem dX0_digest_37 : decode cX0_digest 37 = .ok (.iadd, 1) := by decide +kernel
theorem dX0_digest_38 : decode cX0_digest 38 = .ok (.imul, 1) := by decide +kernel
theorem dX0_digest_39 : decode cX0_digest 39 = .ok (.iadd, 1) := by decide +kernel
theorem dX0_digest_40 : decode cX0_digest 40 = .ok (.istore_n 1, 1) := by decide +kernel
theorem dX0_digest_41 : decode cX0_digest 41 = .ok (.iconst 0, 1) := by decide +kernel
theorem dX0_digest_42 : decode cX0_digest 42 = .ok (.istore 4, 2) := by decide +kernel
theorem dX0_digest_44 : decode cX0_digest 44 = .ok (.iload 4, 2) := by decide +kernel
theorem dX0_digest_46 : decode cX0_digest 46 = .ok (.aload_n 0, 1) := by decide +kernel
theorem dX0_digest_47 : decode cX0_digest 47 = .ok (.getfield 16, 3) := by decide +kernel
theorem dX0_digest_50 : decode cX0_digest 50 = .ok (.iload_n 3, 1) := by decide +kernel
theorem dX0_digest_51 : decode cX0_digest 51 = .ok (.iaload, 1) := by decide +kernel
theorem dX0_digest_52 : decode cX0_digest 52 = .ok (.if_icmp .ge 38, 3) := by decide +kernel
theorem dX0_digest_55 : decode cX0_digest 55 = .ok (.iload_n 1, 1) := by decide +kernel
theorem dX0_digest_56 : decode cX0_digest 56 = .ok (.bipush 8, 2) := by decide +kernel
theorem dX0_digest_58 : decode cX0_digest 58 = .ok (.iload_n 2, 1) := by decide +kernel
theorem dX0_digest_59 : decode cX0_digest 59 = .ok (.imul, 1) := by decide +kernel
theorem dX0_digest_60 : decode cX0_digest 60 = .ok (.iload 4, 2) := by decide +kernel
theorem dX0_digest_62 : decode cX0_digest 62 = .ok (.iadd, 1) := by decide +kernel
theorem dX0_digest_63 : decode cX0_digest 63 = .ok (.iconst 1, 1) := by decide +kernel
theorem dX0_digest_64 : decode cX0_digest 64 = .ok (.iadd, 1) := by decide +kernel
theorem dX0_digest_65 : decode cX0_digest 65 = .ok (.aload_n 0, 1) := by decide +kernel
theorem dX0_digest_66 : decode cX0_digest 66 = .ok (.getfield 7, 3) := by decide +kernel
theorem dX0_digest_69 : decode cX0_digest 69 = .ok (.aload_n 0, 1) := by decide +kernel
theorem dX0_digest_70 : decode cX0_digest 70 = .ok (.getfield 19, 3) := by decide +kernel
theorem dX0_digest_73 : decode cX0_digest 73 = .ok (.iload_n 3, 1) := by decide +kernel
theorem dX0_digest_74 : decode cX0_digest 74 = .ok (.iconst 4, 1) := by decide +kernel
theorem dX0_digest_75 : decode cX0_digest 75 = .ok (.imul, 1) := by decide +kernel
theorem dX0_digest_76 : decode cX0_digest 76 = .ok (.iload 4, 2) := by decide +kernel
theorem dX0_digest_78 : decode cX0_digest 78 = .ok (.iadd, 1) := by decide +kernel
theorem dX0_digest_79 : decode cX0_digest 79 = .ok (.iaload, 1) := by decide +kernel
theorem dX0_digest_80 : decode cX0_digest 80 = .ok (.iaload, 1) := by decide +kernel
theorem dX0_digest_81 : decode cX0_digest 81 = .ok (.imul, 1) := by decide +kernel
theorem dX0_digest_82 : decode cX0_digest 82 = .ok (.iadd, 1) := by decide +kernel
theorem dX0_digest_83 : decode cX0_digest 83 = .ok (.istore_n 1, 1) := by decide +kernel
theorem dX0_digest_84 : decode cX0_digest 84 = .ok (.iinc 4 1, 3) := by decide +kernel
theorem dX0_digest_87 : decode cX0_digest 87 = .ok (.goto (-43), 3) := by decide +kernel
theorem dX0_digest_90 : decode cX0_digest 90 = .ok (.iinc 2 1, 3) := by decide +kernel
theorem dX0_digest_93 : decode cX0_digest 93 = .ok (.goto (-89), 3) := by decide +kernel
theorem dX0_digest_96 : decode cX0_digest 96 = .ok (.iload_n 1, 1) := by decide +kernel
theorem dX0_digest_97 : decode cX0_digest 97 = .ok (.ireturn, 1) := by decide +kernel
end
section
set_option maxRecDepth 100000
theorem dX1_init_0 : decode cX1_init 0 = .ok (.aload_n 0, 1) := by decide +kernel
theorem dX1_init_1 : decode cX1_init 1 = .ok (.invokespecial 1, 3) := by decide +kernel
theorem dX1_init_4 : decode cX1_init 4 = .ok (.aload_n 0, 1) := by decide +kernel
theorem dX1_init_5 : decode cX1_init 5 = .ok (.bipush 12, 2) := by decide +kernel
theorem dX1_init_7 : decode cX1_init 7 = .ok (.newarray .boolean, 2) := by decide +kernel
theorem dX1_init_9 : decode cX1_init 9 = .ok (.putfield 7, 3) := by decide +kernel
theorem dX1_init_12 : decode cX1_init 12 = .ok (.aload_n 0, 1) := by decide +kernel
theorem dX1_init_13 : decode cX1_init 13 = .ok (.bipush 12, 2) := by decide +kernel
theorem dX1_init_15 : decode cX1_init 15 = .ok (.newarray .int, 2) := by decide +kernel
theorem dX1_init_17 : decode cX1_init 17 = .ok (.putfield 13, 3) := by decide +kernel
theorem dX1_init_20 : decode cX1_init 20 = .ok (.aload_n 0, 1) := by decide +kernel
theorem dX1_init_21 : decode cX1_init 21 = .ok (.bipush 48, 2) := by decide +kernel
theorem dX1_init_23 : decode cX1_init 23 = .ok (.newarray .int, 2) := by decide +kernel
theorem dX1_init_25 : decode cX1_init 25 = .ok (.putfield 17, 3) := by decide +kernel
theorem dX1_init_28 : decode cX1_init 28 = .ok (.aload_n 0, 1) := by decide +kernel
theorem dX1_init_29 : decode cX1_init 29 = .ok (.bipush 6, 2) := by decide +kernel
theorem dX1_init_31 : decode cX1_init 31 = .ok (.newarray .boolean, 2) := by decide +kernel
theorem dX1_init_33 : decode cX1_init 33 = .ok (.putfield 20, 3) := by decide +kernel
theorem dX1_init_36 : decode cX1_init 36 = .ok (.return_, 1) := by decide +kernel
theorem dX1_create_0 : decode cX1_create 0 = .ok (.aload_n 0, 1) := by decide +kernel
theorem dX1_create_1 : decode cX1_create 1 = .ok (.iload_n 1, 1) := by decide +kernel
theorem dX1_create_2 : decode cX1_create 2 = .ok (.invokevirtual 23, 3) := by decide +kernel
theorem dX1_create_5 : decode cX1_create 5 = .ok (.ifCond .ne 5, 3) := by decide +kernel
theorem dX1_create_8 : decode cX1_create 8 = .ok (.iconst (-1), 1) := by decide +kernel
theorem dX1_create_9 : decode cX1_create 9 = .ok (.ireturn, 1) := by decide +kernel
theorem dX1_create_10 : decode cX1_create 10 = .ok (.aload_n 0, 1) := by decide +kernel
theorem dX1_create_11 : decode cX1_create 11 = .ok (.getfield 7, 3) := by decide +kernel
theorem dX1_create_14 : decode cX1_create 14 = .ok (.iload_n 1, 1) := by decide +kernel
theorem dX1_create_15 : decode cX1_create 15 = .ok (.baload, 1) := by decide +kernel
theorem dX1_create_16 : decode cX1_create 16 = .ok (.ifCond .eq 6, 3) := by decide +kernel
theorem dX1_create_19 : decode cX1_create 19 = .ok (.bipush (-3), 2) := by decide +kernel
theorem dX1_create_21 : decode cX1_create 21 = .ok (.ireturn, 1) := by decide +kernel
theorem dX1_create_22 : decode cX1_create 22 = .ok (.aload_n 0, 1) := by decide +kernel
theorem dX1_create_23 : decode cX1_create 23 = .ok (.getfield 7, 3) := by decide +kernel
theorem dX1_create_26 : decode cX1_create 26 = .ok (.iload_n 1, 1) := by decide +kernel
theorem dX1_create_27 : decode cX1_create 27 = .ok (.iconst 1, 1) := by decide +kernel
theorem dX1_create_28 : decode cX1_create 28 = .ok (.bastore, 1) := by decide +kernel
theorem dX1_create_29 : decode cX1_create 29 = .ok (.aload_n 0, 1) := by decide +kernel
theorem dX1_create_30 : decode cX1_create 30 = .ok (.getfield 13, 3) := by decide +kernel
theorem dX1_create_33 : decode cX1_create 33 = .ok (.iload_n 1, 1) := by decide +kernel
theorem dX1_create_34 : decode cX1_create 34 = .ok (.iconst 0, 1) := by decide +kernel
theorem dX1_create_35 : decode cX1_create 35 = .ok (.iastore, 1) := by decide +kernel
theorem dX1_create_36 : decode cX1_create 36 = .ok (.aload_n 0, 1) := by decide +kernel
theorem dX1_create_37 : decode cX1_create 37 = .ok (.getfield 20, 3) := by decide +kernel
theorem dX1_create_40 : decode cX1_create 40 = .ok (.iload_n 1, 1) := by decide +kernel
theorem dX1_create_41 : decode cX1_create 41 = .ok (.iconst 1, 1) := by decide +kernel
theorem dX1_create_42 : decode cX1_create 42 = .ok (.bastore, 1) := by decide +kernel
theorem dX1_create_43 : decode cX1_create 43 = .ok (.iconst 0, 1) := by decide +kernel
theorem dX1_create_44 : decode cX1_create 44 = .ok (.ireturn, 1) := by decide +kernel
theorem dX1_isFile_0 : decode cX1_isFile 0 = .ok (.iload_n 1, 1) := by decide +kernel
theorem dX1_isFile_1 : decode cX1_isFile 1 = .ok (.ifCond .lt 12, 3) := by decide +kernel
theorem dX1_isFile_4 : decode cX1_isFile 4 = .ok (.iload_n 1, 1) := by decide +kernel
theorem dX1_isFile_5 : decode cX1_isFile 5 = .ok (.iconst 5, 1) := by decide +kernel
theorem dX1_isFile_6 : decode cX1_isFile 6 = .ok (.if_icmp .gt 7, 3) := by decide +kernel
theorem dX1_isFile_9 : decode cX1_isFile 9 = .ok (.iconst 1, 1) := by decide +kernel
theorem dX1_isFile_10 : decode cX1_isFile 10 = .ok (.goto 4, 3) := by decide +kernel
theorem dX1_isFile_13 : decode cX1_isFile 13 = .ok (.iconst 0, 1) := by decide +kernel
theorem dX1_isFile_14 : decode cX1_isFile 14 = .ok (.ireturn, 1) := by decide +kernel
theorem dX1_remove_0 : decode cX1_remove 0 = .ok (.aload_n 0, 1) := by decide +kernel
theorem dX1_remove_1 : decode cX1_remove 1 = .ok (.iload_n 1, 1) := by decide +kernel
theorem dX1_remove_2 : decode cX1_remove 2 = .ok (.invokevirtual 27, 3) := by decide +kernel
theorem dX1_remove_5 : decode cX1_remove 5 = .ok (.istore_n 2, 1) := by decide +kernel
theorem dX1_remove_6 : decode cX1_remove 6 = .ok (.iload_n 2, 1) := by decide +kernel
theorem dX1_remove_7 : decode cX1_remove 7 = .ok (.ifCond .ge 5, 3) := by decide +kernel
theorem dX1_remove_10 : decode cX1_remove 10 = .ok (.iload_n 2, 1) := by decide +kernel
theorem dX1_remove_11 : decode cX1_remove 11 = .ok (.ireturn, 1) := by decide +kernel
theorem dX1_remove_12 : decode cX1_remove 12 = .ok (.aload_n 0, 1) := by decide +kernel
theorem dX1_remove_13 : decode cX1_remove 13 = .ok (.getfield 7, 3) := by decide +kernel
theorem dX1_remove_16 : decode cX1_remove 16 = .ok (.iload_n 1, 1) := by decide +kernel
theorem dX1_remove_17 : decode cX1_remove 17 = .ok (.iconst 0, 1) := by decide +kernel
theorem dX1_remove_18 : decode cX1_remove 18 = .ok (.bastore, 1) := by decide +kernel
theorem dX1_remove_19 : decode cX1_remove 19 = .ok (.aload_n 0, 1) := by decide +kernel
theorem dX1_remove_20 : decode cX1_remove 20 = .ok (.getfield 20, 3) := by decide +kernel
theorem dX1_remove_23 : decode cX1_remove 23 = .ok (.iload_n 1, 1) := by decide +kernel
theorem dX1_remove_24 : decode cX1_remove 24 = .ok (.iconst 0, 1) := by decide +kernel
theorem dX1_remove_25 : decode cX1_remove 25 = .ok (.bastore, 1) := by decide +kernel
theorem dX1_remove_26 : decode cX1_remove 26 = .ok (.aload_n 0, 1) := by decide +kernel
theorem dX1_remove_27 : decode cX1_remove 27 = .ok (.getfield 13, 3) := by decide +kernel
theorem dX1_remove_30 : decode cX1_remove 30 = .ok (.iload_n 1, 1) := by decide +kernel
theorem dX1_remove_31 : decode cX1_remove 31 = .ok (.iaload, 1) := by decide +kernel
theorem dX1_remove_32 : decode cX1_remove 32 = .ok (.ireturn, 1) := by decide +kernel
theorem dX1_test_0 : decode cX1_test 0 = .ok (.aload_n 0, 1) := by decide +kernel
theorem dX1_test_1 : decode cX1_test 1 = .ok (.iload_n 1, 1) := by decide +kernel
theorem dX1_test_2 : decode cX1_test 2 = .ok (.invokevirtual 23, 3) := by decide +kernel
theorem dX1_test_5 : decode cX1_test 5 = .ok (.ifCond .ne 5, 3) := by decide +kernel
theorem dX1_test_8 : decode cX1_test 8 = .ok (.iconst (-1), 1) := by decide +kernel
theorem dX1_test_9 : decode cX1_test 9 = .ok (.ireturn, 1) := by decide +kernel
theorem dX1_test_10 : decode cX1_test 10 = .ok (.aload_n 0, 1) := by decide +kernel
theorem dX1_test_11 : decode cX1_test 11 = .ok (.getfield 7, 3) := by decide +kernel
theorem dX1_test_14 : decode cX1_test 14 = .ok (.iload_n 1, 1) := by decide +kernel
theorem dX1_test_15 : decode cX1_test 15 = .ok (.baload, 1) := by decide +kernel
theorem dX1_test_16 : decode cX1_test 16 = .ok (.ifCond .eq 7, 3) := by decide +kernel
theorem dX1_test_19 : decode cX1_test 19 = .ok (.iconst 0, 1) := by decide +kernel
theorem dX1_test_20 : decode cX1_test 20 = .ok (.goto 5, 3) := by decide +kernel
theorem dX1_test_23 : decode cX1_test 23 = .ok (.bipush (-3), 2) := by decide +kernel
theorem dX1_test_25 : decode cX1_test 25 = .ok (.ireturn, 1) := by decide +kernel
theorem dX1_write_0 : decode cX1_write 0 = .ok (.aload_n 0, 1) := by decide +kernel
theorem dX1_write_1 : decode cX1_write 1 = .ok (.iload_n 1, 1) := by decide +kernel
theorem dX1_write_2 : decode cX1_write 2 = .ok (.invokevirtual 27, 3) := by decide +kernel
theorem dX1_write_5 : decode cX1_write 5 = .ok (.istore 4, 2) := by decide +kernel
theorem dX1_write_7 : decode cX1_write 7 = .ok (.iload 4, 2) := by decide +kernel
theorem dX1_write_9 : decode cX1_write 9 = .ok (.ifCond .ge 6, 3) := by decide +kernel
theorem dX1_write_12 : decode cX1_write 12 = .ok (.iload 4, 2) := by decide +kernel
theorem dX1_write_14 : decode cX1_write 14 = .ok (.ireturn, 1) := by decide +kernel
theorem dX1_write_15 : decode cX1_write 15 = .ok (.iload_n 2, 1) := by decide +kernel
theorem dX1_write_16 : decode cX1_write 16 = .ok (.ifCond .lt 18, 3) := by decide +kernel
theorem dX1_write_19 : decode cX1_write 19 = .ok (.iload_n 2, 1) := by decide +kernel
theorem dX1_write_20 : decode cX1_write 20 = .ok (.aload_n 0, 1) := by decide +kernel
theorem dX1_write_21 : decode cX1_write 21 = .ok (.getfield 13, 3) := by decide +kernel
theorem dX1_write_24 : decode cX1_write 24 = .ok (.iload_n 1, 1) := by decide +kernel
theorem dX1_write_25 : decode cX1_write 25 = .ok (.iaload, 1) := by decide +kernel
theorem dX1_write_26 : decode cX1_write 26 = .ok (.if_icmp .gt 8, 3) := by decide +kernel
theorem dX1_write_29 : decode cX1_write 29 = .ok (.iload_n 2, 1) := by decide +kernel
theorem dX1_write_30 : decode cX1_write 30 = .ok (.iconst 4, 1) := by decide +kernel
theorem dX1_write_31 : decode cX1_write 31 = .ok (.if_icmp .ne 5, 3) := by decide +kernel
theorem dX1_write_34 : decode cX1_write 34 = .ok (.iconst (-1), 1) := by decide +kernel
theorem dX1_write_35 : decode cX1_write 35 = .ok (.ireturn, 1) := by decide +kernel
theorem dX1_write_36 : decode cX1_write 36 = .ok (.aload_n 0, 1) := by decide +kernel
theorem dX1_write_37 : decode cX1_write 37 = .ok (.getfield 17, 3) := by decide +kernel
theorem dX1_write_40 : decode cX1_write 40 = .ok (.iconst 4, 1) := by decide +kernel
theorem dX1_write_41 : decode cX1_write 41 = .ok (.iload_n 1, 1) := by decide +kernel
theorem dX1_write_42 : decode cX1_write 42 = .ok (.imul, 1) := by decide +kernel
theorem dX1_write_43 : decode cX1_write 43 = .ok (.iload_n 2, 1) := by decide +kernel
theorem dX1_write_44 : decode cX1_write 44 = .ok (.iadd, 1) := by decide +kernel
theorem dX1_write_45 : decode cX1_write 45 = .ok (.iload_n 3, 1) := by decide +kernel
theorem dX1_write_46 : decode cX1_write 46 = .ok (.iastore, 1) := by decide +kernel
theorem dX1_write_47 : decode cX1_write 47 = .ok (.aload_n 0, 1) := by decide +kernel
theorem dX1_write_48 : decode cX1_write 48 = .ok (.getfield 13, 3) := by decide +kernel
theorem dX1_write_51 : decode cX1_write 51 = .ok (.iload_n 1, 1) := by decide +kernel
theorem dX1_write_52 : decode cX1_write 52 = .ok (.iload_n 2, 1) := by decide +kernel
theorem dX1_write_53 : decode cX1_write 53 = .ok (.aload_n 0, 1) := by decide +kernel
theorem dX1_write_54 : decode cX1_write 54 = .ok (.getfield 13, 3) := by decide +kernel
theorem dX1_write_57 : decode cX1_write 57 = .ok (.iload_n 1, 1) := by decide +kernel
theorem dX1_write_58 : decode cX1_write 58 = .ok (.iaload, 1) := by decide +kernel
theorem dX1_write_59 : decode cX1_write 59 = .ok (.if_icmp .ne 9, 3) := by decide +kernel
theorem dX1_write_62 : decode cX1_write 62 = .ok (.iload_n 2, 1) := by decide +kernel
theorem dX1_write_63 : decode cX1_write 63 = .ok (.iconst 1, 1) := by decide +kernel
theorem dX1_write_64 : decode cX1_write 64 = .ok (.iadd, 1) := by decide +kernel
theorem dX1_write_65 : decode cX1_write 65 = .ok (.goto 9, 3) := by decide +kernel
theorem dX1_write_68 : decode cX1_write 68 = .ok (.aload_n 0, 1) := by decide +kernel
theorem dX1_write_69 : decode cX1_write 69 = .ok (.getfield 13, 3) := by decide +kernel
theorem dX1_write_72 : decode cX1_write 72 = .ok (.iload_n 1, 1) := by decide +kernel
theorem dX1_write_73 : decode cX1_write 73 = .ok (.iaload, 1) := by decide +kernel
theorem dX1_write_74 : decode cX1_write 74 = .ok (.iastore, 1) := by decide +kernel
theorem dX1_write_75 : decode cX1_write 75 = .ok (.aload_n 0, 1) := by decide +kernel
theorem dX1_write_76 : decode cX1_write 76 = .ok (.getfield 13, 3) := by decide +kernel
theorem dX1_write_79 : decode cX1_write 79 = .ok (.iload_n 1, 1) := by decide +kernel
theorem dX1_write_80 : decode cX1_write 80 = .ok (.iaload, 1) := by decide +kernel
theorem dX1_write_81 : decode cX1_write 81 = .ok (.ireturn, 1) := by decide +kernel
theorem dX1_truncate_0 : decode cX1_truncate 0 = .ok (.aload_n 0, 1) := by decide +kernel
theorem dX1_truncate_1 : decode cX1_truncate 1 = .ok (.iload_n 1, 1) := by decide +kernel
theorem dX1_truncate_2 : decode cX1_truncate 2 = .ok (.invokevirtual 27, 3) := by decide +kernel
theorem dX1_truncate_5 : decode cX1_truncate 5 = .ok (.istore_n 3, 1) := by decide +kernel
theorem dX1_truncate_6 : decode cX1_truncate 6 = .ok (.iload_n 3, 1) := by decide +kernel
theorem dX1_truncate_7 : decode cX1_truncate 7 = .ok (.ifCond .ge 5, 3) := by decide +kernel
theorem dX1_truncate_10 : decode cX1_truncate 10 = .ok (.iload_n 3, 1) := by decide +kernel
theorem dX1_truncate_11 : decode cX1_truncate 11 = .ok (.ireturn, 1) := by decide +kernel
theorem dX1_truncate_12 : decode cX1_truncate 12 = .ok (.iload_n 2, 1) := by decide +kernel
theorem dX1_truncate_13 : decode cX1_truncate 13 = .ok (.ifCond .lt 13, 3) := by decide +kernel
theorem dX1_truncate_16 : decode cX1_truncate 16 = .ok (.iload_n 2, 1) := by decide +kernel
theorem dX1_truncate_17 : decode cX1_truncate 17 = .ok (.aload_n 0, 1) := by decide +kernel
theorem dX1_truncate_18 : decode cX1_truncate 18 = .ok (.getfield 13, 3) := by decide +kernel
theorem dX1_truncate_21 : decode cX1_truncate 21 = .ok (.iload_n 1, 1) := by decide +kernel
theorem dX1_truncate_22 : decode cX1_truncate 22 = .ok (.iaload, 1) := by decide +kernel
theorem dX1_truncate_23 : decode cX1_truncate 23 = .ok (.if_icmp .le 5, 3) := by decide +kernel
theorem dX1_truncate_26 : decode cX1_truncate 26 = .ok (.iconst (-1), 1) := by decide +kernel
theorem dX1_truncate_27 : decode cX1_truncate 27 = .ok (.ireturn, 1) := by decide +kernel
theorem dX1_truncate_28 : decode cX1_truncate 28 = .ok (.aload_n 0, 1) := by decide +kernel
theorem dX1_truncate_29 : decode cX1_truncate 29 = .ok (.getfield 13, 3) := by decide +kernel
theorem dX1_truncate_32 : decode cX1_truncate 32 = .ok (.iload_n 1, 1) := by decide +kernel
theorem dX1_truncate_33 : decode cX1_truncate 33 = .ok (.iaload, 1) := by decide +kernel
theorem dX1_truncate_34 : decode cX1_truncate 34 = .ok (.istore 4, 2) := by decide +kernel
theorem dX1_truncate_36 : decode cX1_truncate 36 = .ok (.aload_n 0, 1) := by decide +kernel
theorem dX1_truncate_37 : decode cX1_truncate 37 = .ok (.getfield 13, 3) := by decide +kernel
theorem dX1_truncate_40 : decode cX1_truncate 40 = .ok (.iload_n 1, 1) := by decide +kernel
theorem dX1_truncate_41 : decode cX1_truncate 41 = .ok (.iload_n 2, 1) := by decide +kernel
theorem dX1_truncate_42 : decode cX1_truncate 42 = .ok (.iastore, 1) := by decide +kernel
theorem dX1_truncate_43 : decode cX1_truncate 43 = .ok (.iload 4, 2) := by decide +kernel
theorem dX1_truncate_45 : decode cX1_truncate 45 = .ok (.ireturn, 1) := by decide +kernel
theorem dX1_copy_0 : decode cX1_copy 0 = .ok (.aload_n 0, 1) := by decide +kernel
theorem dX1_copy_1 : decode cX1_copy 1 = .ok (.iload_n 1, 1) := by decide +kernel
theorem dX1_copy_2 : decode cX1_copy 2 = .ok (.invokevirtual 23, 3) := by decide +kernel
theorem dX1_copy_5 : decode cX1_copy 5 = .ok (.ifCond .eq 11, 3) := by decide +kernel
theorem dX1_copy_8 : decode cX1_copy 8 = .ok (.aload_n 0, 1) := by decide +kernel
theorem dX1_copy_9 : decode cX1_copy 9 = .ok (.iload_n 2, 1) := by decide +kernel
theorem dX1_copy_10 : decode cX1_copy 10 = .ok (.invokevirtual 23, 3) := by decide +kernel
theorem dX1_copy_13 : decode cX1_copy 13 = .ok (.ifCond .ne 5, 3) := by decide +kernel
theorem dX1_copy_16 : decode cX1_copy 16 = .ok (.iconst (-1), 1) := by decide +kernel
theorem dX1_copy_17 : decode cX1_copy 17 = .ok (.ireturn, 1) := by decide +kernel
theorem dX1_copy_18 : decode cX1_copy 18 = .ok (.aload_n 0, 1) := by decide +kernel
theorem dX1_copy_19 : decode cX1_copy 19 = .ok (.getfield 7, 3) := by decide +kernel
theorem dX1_copy_22 : decode cX1_copy 22 = .ok (.iload_n 1, 1) := by decide +kernel
theorem dX1_copy_23 : decode cX1_copy 23 = .ok (.baload, 1) := by decide +kernel
theorem dX1_copy_24 : decode cX1_copy 24 = .ok (.ifCond .eq 12, 3) := by decide +kernel
theorem dX1_copy_27 : decode cX1_copy 27 = .ok (.aload_n 0, 1) := by decide +kernel
theorem dX1_copy_28 : decode cX1_copy 28 = .ok (.getfield 7, 3) := by decide +kernel
theorem dX1_copy_31 : decode cX1_copy 31 = .ok (.iload_n 2, 1) := by decide +kernel
theorem dX1_copy_32 : decode cX1_copy 32 = .ok (.baload, 1) := by decide +kernel
theorem dX1_copy_33 : decode cX1_copy 33 = .ok (.ifCond .ne 6, 3) := by decide +kernel
theorem dX1_copy_36 : decode cX1_copy 36 = .ok (.bipush (-3), 2) := by decide +kernel
theorem dX1_copy_38 : decode cX1_copy 38 = .ok (.ireturn, 1) := by decide +kernel
theorem dX1_copy_39 : decode cX1_copy 39 = .ok (.aload_n 0, 1) := by decide +kernel
theorem dX1_copy_40 : decode cX1_copy 40 = .ok (.iload_n 2, 1) := by decide +kernel
theorem dX1_copy_41 : decode cX1_copy 41 = .ok (.iload_n 1, 1) := by decide +kernel
theorem dX1_copy_42 : decode cX1_copy 42 = .ok (.invokevirtual 31, 3) := by decide +kernel
theorem dX1_copy_45 : decode cX1_copy 45 = .ok (.aload_n 0, 1) := by decide +kernel
theorem dX1_copy_46 : decode cX1_copy 46 = .ok (.getfield 13, 3) := by decide +kernel
theorem dX1_copy_49 : decode cX1_copy 49 = .ok (.iload_n 1, 1) := by decide +kernel
theorem dX1_copy_50 : decode cX1_copy 50 = .ok (.iaload, 1) := by decide +kernel
theorem dX1_copy_51 : decode cX1_copy 51 = .ok (.ireturn, 1) := by decide +kernel
theorem dX1_copyContent_0 : decode cX1_copyContent 0 = .ok (.aload_n 0, 1) := by decide +kernel
theorem dX1_copyContent_1 : decode cX1_copyContent 1 = .ok (.getfield 13, 3) := by decide +kernel
theorem dX1_copyContent_4 : decode cX1_copyContent 4 = .ok (.iload_n 2, 1) := by decide +kernel
theorem dX1_copyContent_5 : decode cX1_copyContent 5 = .ok (.aload_n 0, 1) := by decide +kernel
theorem dX1_copyContent_6 : decode cX1_copyContent 6 = .ok (.getfield 13, 3) := by decide +kernel
theorem dX1_copyContent_9 : decode cX1_copyContent 9 = .ok (.iload_n 1, 1) := by decide +kernel
theorem dX1_copyContent_10 : decode cX1_copyContent 10 = .ok (.iaload, 1) := by decide +kernel
theorem dX1_copyContent_11 : decode cX1_copyContent 11 = .ok (.iastore, 1) := by decide +kernel
theorem dX1_copyContent_12 : decode cX1_copyContent 12 = .ok (.iconst 0, 1) := by decide +kernel
theorem dX1_copyContent_13 : decode cX1_copyContent 13 = .ok (.istore_n 3, 1) := by decide +kernel
theorem dX1_copyContent_14 : decode cX1_copyContent 14 = .ok (.iload_n 3, 1) := by decide +kernel
theorem dX1_copyContent_15 : decode cX1_copyContent 15 = .ok (.iconst 4, 1) := by decide +kernel
theorem dX1_copyContent_16 : decode cX1_copyContent 16 = .ok (.if_icmp .ge 29, 3) := by decide +kernel
theorem dX1_copyContent_19 : decode cX1_copyContent 19 = .ok (.aload_n 0, 1) := by decide +kernel
theorem dX1_copyContent_20 : decode cX1_copyContent 20 = .ok (.getfield 17, 3) := by decide +kernel
theorem dX1_copyContent_23 : decode cX1_copyContent 23 = .ok (.iconst 4, 1) := by decide +kernel
theorem dX1_copyContent_24 : decode cX1_copyContent 24 = .ok (.iload_n 2, 1) := by decide +kernel
theorem dX1_copyContent_25 : decode cX1_copyContent 25 = .ok (.imul, 1) := by decide +kernel
theorem dX1_copyContent_26 : decode cX1_copyContent 26 = .ok (.iload_n 3, 1) := by decide +kernel
theorem dX1_copyContent_27 : decode cX1_copyContent 27 = .ok (.iadd, 1) := by decide +kernel
theorem dX1_copyContent_28 : decode cX1_copyContent 28 = .ok (.aload_n 0, 1) := by decide +kernel
theorem dX1_copyContent_29 : decode cX1_copyContent 29 = .ok (.getfield 17, 3) := by decide +kernel
theorem dX1_copyContent_32 : decode cX1_copyContent 32 = .ok (.iconst 4, 1) := by decide +kernel
theorem dX1_copyContent_33 : decode cX1_copyContent 33 = .ok (.iload_n 1, 1) := by decide +kernel
theorem dX1_copyContent_34 : decode cX1_copyContent 34 = .ok (.imul, 1) := by decide +kernel
theorem dX1_copyContent_35 : decode cX1_copyContent 35 = .ok (.iload_n 3, 1) := by decide +kernel
theorem dX1_copyContent_36 : decode cX1_copyContent 36 = .ok (.iadd, 1) := by decide +kernel
theorem dX1_copyContent_37 : decode cX1_copyContent 37 = .ok (.iaload, 1) := by decide +kernel
theorem dX1_copyContent_38 : decode cX1_copyContent 38 = .ok (.iastore, 1) := by decide +kernel
theorem dX1_copyContent_39 : decode cX1_copyContent 39 = .ok (.iinc 3 1, 3) := by decide +kernel
theorem dX1_copyContent_42 : decode cX1_copyContent 42 = .ok (.goto (-28), 3) := by decide +kernel
theorem dX1_copyContent_45 : decode cX1_copyContent 45 = .ok (.return_, 1) := by decide +kernel
theorem dX1_fsync_0 : decode cX1_fsync 0 = .ok (.aload_n 0, 1) := by decide +kernel
theorem dX1_fsync_1 : decode cX1_fsync 1 = .ok (.iload_n 1, 1) := by decide +kernel
theorem dX1_fsync_2 : decode cX1_fsync 2 = .ok (.invokevirtual 27, 3) := by decide +kernel
theorem dX1_fsync_5 : decode cX1_fsync 5 = .ok (.istore_n 2, 1) := by decide +kernel
theorem dX1_fsync_6 : decode cX1_fsync 6 = .ok (.iload_n 2, 1) := by decide +kernel
theorem dX1_fsync_7 : decode cX1_fsync 7 = .ok (.ifCond .ge 5, 3) := by decide +kernel
theorem dX1_fsync_10 : decode cX1_fsync 10 = .ok (.iload_n 2, 1) := by decide +kernel
theorem dX1_fsync_11 : decode cX1_fsync 11 = .ok (.ireturn, 1) := by decide +kernel
theorem dX1_fsync_12 : decode cX1_fsync 12 = .ok (.aload_n 0, 1) := by decide +kernel
theorem dX1_fsync_13 : decode cX1_fsync 13 = .ok (.getfield 20, 3) := by decide +kernel
theorem dX1_fsync_16 : decode cX1_fsync 16 = .ok (.iload_n 1, 1) := by decide +kernel
theorem dX1_fsync_17 : decode cX1_fsync 17 = .ok (.baload, 1) := by decide +kernel
theorem dX1_fsync_18 : decode cX1_fsync 18 = .ok (.ifCond .eq 10, 3) := by decide +kernel
theorem dX1_fsync_21 : decode cX1_fsync 21 = .ok (.aload_n 0, 1) := by decide +kernel
theorem dX1_fsync_22 : decode cX1_fsync 22 = .ok (.invokevirtual 35, 3) := by decide +kernel
theorem dX1_fsync_25 : decode cX1_fsync 25 = .ok (.pop, 1) := by decide +kernel
theorem dX1_fsync_26 : decode cX1_fsync 26 = .ok (.iconst 1, 1) := by decide +kernel
theorem dX1_fsync_27 : decode cX1_fsync 27 = .ok (.ireturn, 1) := by decide +kernel
theorem dX1_fsync_28 : decode cX1_fsync 28 = .ok (.aload_n 0, 1) := by decide +kernel
theorem dX1_fsync_29 : decode cX1_fsync 29 = .ok (.getfield 7, 3) := by decide +kernel
theorem dX1_fsync_32 : decode cX1_fsync 32 = .ok (.bipush 6, 2) := by decide +kernel
theorem dX1_fsync_34 : decode cX1_fsync 34 = .ok (.iload_n 1, 1) := by decide +kernel
theorem dX1_fsync_35 : decode cX1_fsync 35 = .ok (.iadd, 1) := by decide +kernel
theorem dX1_fsync_36 : decode cX1_fsync 36 = .ok (.iconst 1, 1) := by decide +kernel
theorem dX1_fsync_37 : decode cX1_fsync 37 = .ok (.bastore, 1) := by decide +kernel
theorem dX1_fsync_38 : decode cX1_fsync 38 = .ok (.aload_n 0, 1) := by decide +kernel
theorem dX1_fsync_39 : decode cX1_fsync 39 = .ok (.iload_n 1, 1) := by decide +kernel
theorem dX1_fsync_40 : decode cX1_fsync 40 = .ok (.bipush 6, 2) := by decide +kernel
theorem dX1_fsync_42 : decode cX1_fsync 42 = .ok (.iload_n 1, 1) := by decide +kernel
theorem dX1_fsync_43 : decode cX1_fsync 43 = .ok (.iadd, 1) := by decide +kernel
theorem dX1_fsync_44 : decode cX1_fsync 44 = .ok (.invokevirtual 31, 3) := by decide +kernel
theorem dX1_fsync_47 : decode cX1_fsync 47 = .ok (.iconst 0, 1) := by decide +kernel
theorem dX1_fsync_48 : decode cX1_fsync 48 = .ok (.ireturn, 1) := by decide +kernel
theorem dX1_sync_0 : decode cX1_sync 0 = .ok (.iconst 0, 1) := by decide +kernel
theorem dX1_sync_1 : decode cX1_sync 1 = .ok (.istore_n 1, 1) := by decide +kernel
theorem dX1_sync_2 : decode cX1_sync 2 = .ok (.iload_n 1, 1) := by decide +kernel
theorem dX1_sync_3 : decode cX1_sync 3 = .ok (.bipush 6, 2) := by decide +kernel
theorem dX1_sync_5 : decode cX1_sync 5 = .ok (.if_icmp .ge 33, 3) := by decide +kernel
theorem dX1_sync_8 : decode cX1_sync 8 = .ok (.aload_n 0, 1) := by decide +kernel
theorem dX1_sync_9 : decode cX1_sync 9 = .ok (.getfield 7, 3) := by decide +kernel
theorem dX1_sync_12 : decode cX1_sync 12 = .ok (.bipush 6, 2) := by decide +kernel
theorem dX1_sync_14 : decode cX1_sync 14 = .ok (.iload_n 1, 1) := by decide +kernel
theorem dX1_sync_15 : decode cX1_sync 15 = .ok (.iadd, 1) := by decide +kernel
theorem dX1_sync_16 : decode cX1_sync 16 = .ok (.aload_n 0, 1) := by decide +kernel
theorem dX1_sync_17 : decode cX1_sync 17 = .ok (.getfield 7, 3) := by decide +kernel
theorem dX1_sync_20 : decode cX1_sync 20 = .ok (.iload_n 1, 1) := by decide +kernel
theorem dX1_sync_21 : decode cX1_sync 21 = .ok (.baload, 1) := by decide +kernel
theorem dX1_sync_22 : decode cX1_sync 22 = .ok (.bastore, 1) := by decide +kernel
theorem dX1_sync_23 : decode cX1_sync 23 = .ok (.aload_n 0, 1) := by decide +kernel
theorem dX1_sync_24 : decode cX1_sync 24 = .ok (.iload_n 1, 1) := by decide +kernel
theorem dX1_sync_25 : decode cX1_sync 25 = .ok (.bipush 6, 2) := by decide +kernel
theorem dX1_sync_27 : decode cX1_sync 27 = .ok (.iload_n 1, 1) := by decide +kernel
theorem dX1_sync_28 : decode cX1_sync 28 = .ok (.iadd, 1) := by decide +kernel
theorem dX1_sync_29 : decode cX1_sync 29 = .ok (.invokevirtual 31, 3) := by decide +kernel
theorem dX1_sync_32 : decode cX1_sync 32 = .ok (.iinc 1 1, 3) := by decide +kernel
theorem dX1_sync_35 : decode cX1_sync 35 = .ok (.goto (-33), 3) := by decide +kernel
theorem dX1_sync_38 : decode cX1_sync 38 = .ok (.aload_n 0, 1) := by decide +kernel
theorem dX1_sync_39 : decode cX1_sync 39 = .ok (.invokevirtual 39, 3) := by decide +kernel
end
section
set_option maxRecDepth 100000
theorem dX1_sync_42 : decode cX1_sync 42 = .ok (.ireturn, 1) := by decide +kernel
theorem dX1_count_0 : decode cX1_count 0 = .ok (.iconst 0, 1) := by decide +kernel
theorem dX1_count_1 : decode cX1_count 1 = .ok (.istore_n 1, 1) := by decide +kernel
theorem dX1_count_2 : decode cX1_count 2 = .ok (.iconst 0, 1) := by decide +kernel
theorem dX1_count_3 : decode cX1_count 3 = .ok (.istore_n 2, 1) := by decide +kernel
theorem dX1_count_4 : decode cX1_count 4 = .ok (.iload_n 2, 1) := by decide +kernel
theorem dX1_count_5 : decode cX1_count 5 = .ok (.bipush 6, 2) := by decide +kernel
theorem dX1_count_7 : decode cX1_count 7 = .ok (.if_icmp .ge 33, 3) := by decide +kernel
theorem dX1_count_10 : decode cX1_count 10 = .ok (.aload_n 0, 1) := by decide +kernel
theorem dX1_count_11 : decode cX1_count 11 = .ok (.getfield 7, 3) := by decide +kernel
theorem dX1_count_14 : decode cX1_count 14 = .ok (.iload_n 2, 1) := by decide +kernel
theorem dX1_count_15 : decode cX1_count 15 = .ok (.baload, 1) := by decide +kernel
theorem dX1_count_16 : decode cX1_count 16 = .ok (.ifCond .eq 9, 3) := by decide +kernel
theorem dX1_count_19 : decode cX1_count 19 = .ok (.iload_n 1, 1) := by decide +kernel
theorem dX1_count_20 : decode cX1_count 20 = .ok (.iconst 1, 1) := by decide +kernel
theorem dX1_count_21 : decode cX1_count 21 = .ok (.iadd, 1) := by decide +kernel
theorem dX1_count_22 : decode cX1_count 22 = .ok (.goto 4, 3) := by decide +kernel
theorem dX1_count_25 : decode cX1_count 25 = .ok (.iload_n 1, 1) := by decide +kernel
theorem dX1_count_26 : decode cX1_count 26 = .ok (.istore_n 1, 1) := by decide +kernel
theorem dX1_count_27 : decode cX1_count 27 = .ok (.aload_n 0, 1) := by decide +kernel
theorem dX1_count_28 : decode cX1_count 28 = .ok (.getfield 20, 3) := by decide +kernel
theorem dX1_count_31 : decode cX1_count 31 = .ok (.iload_n 2, 1) := by decide +kernel
theorem dX1_count_32 : decode cX1_count 32 = .ok (.iconst 0, 1) := by decide +kernel
theorem dX1_count_33 : decode cX1_count 33 = .ok (.bastore, 1) := by decide +kernel
theorem dX1_count_34 : decode cX1_count 34 = .ok (.iinc 2 1, 3) := by decide +kernel
theorem dX1_count_37 : decode cX1_count 37 = .ok (.goto (-33), 3) := by decide +kernel
theorem dX1_count_40 : decode cX1_count 40 = .ok (.iload_n 1, 1) := by decide +kernel
theorem dX1_count_41 : decode cX1_count 41 = .ok (.ireturn, 1) := by decide +kernel
theorem dX1_crash_0 : decode cX1_crash 0 = .ok (.iconst 0, 1) := by decide +kernel
theorem dX1_crash_1 : decode cX1_crash 1 = .ok (.istore_n 1, 1) := by decide +kernel
theorem dX1_crash_2 : decode cX1_crash 2 = .ok (.iload_n 1, 1) := by decide +kernel
theorem dX1_crash_3 : decode cX1_crash 3 = .ok (.bipush 6, 2) := by decide +kernel
theorem dX1_crash_5 : decode cX1_crash 5 = .ok (.if_icmp .ge 33, 3) := by decide +kernel
theorem dX1_crash_8 : decode cX1_crash 8 = .ok (.aload_n 0, 1) := by decide +kernel
theorem dX1_crash_9 : decode cX1_crash 9 = .ok (.getfield 7, 3) := by decide +kernel
theorem dX1_crash_12 : decode cX1_crash 12 = .ok (.iload_n 1, 1) := by decide +kernel
theorem dX1_crash_13 : decode cX1_crash 13 = .ok (.aload_n 0, 1) := by decide +kernel
theorem dX1_crash_14 : decode cX1_crash 14 = .ok (.getfield 7, 3) := by decide +kernel
theorem dX1_crash_17 : decode cX1_crash 17 = .ok (.bipush 6, 2) := by decide +kernel
theorem dX1_crash_19 : decode cX1_crash 19 = .ok (.iload_n 1, 1) := by decide +kernel
theorem dX1_crash_20 : decode cX1_crash 20 = .ok (.iadd, 1) := by decide +kernel
theorem dX1_crash_21 : decode cX1_crash 21 = .ok (.baload, 1) := by decide +kernel
theorem dX1_crash_22 : decode cX1_crash 22 = .ok (.bastore, 1) := by decide +kernel
theorem dX1_crash_23 : decode cX1_crash 23 = .ok (.aload_n 0, 1) := by decide +kernel
theorem dX1_crash_24 : decode cX1_crash 24 = .ok (.bipush 6, 2) := by decide +kernel
theorem dX1_crash_26 : decode cX1_crash 26 = .ok (.iload_n 1, 1) := by decide +kernel
theorem dX1_crash_27 : decode cX1_crash 27 = .ok (.iadd, 1) := by decide +kernel
theorem dX1_crash_28 : decode cX1_crash 28 = .ok (.iload_n 1, 1) := by decide +kernel
theorem dX1_crash_29 : decode cX1_crash 29 = .ok (.invokevirtual 31, 3) := by decide +kernel
theorem dX1_crash_32 : decode cX1_crash 32 = .ok (.iinc 1 1, 3) := by decide +kernel
theorem dX1_crash_35 : decode cX1_crash 35 = .ok (.goto (-33), 3) := by decide +kernel
theorem dX1_crash_38 : decode cX1_crash 38 = .ok (.aload_n 0, 1) := by decide +kernel
theorem dX1_crash_39 : decode cX1_crash 39 = .ok (.invokevirtual 39, 3) := by decide +kernel
theorem dX1_crash_42 : decode cX1_crash 42 = .ok (.ireturn, 1) := by decide +kernel
theorem dX1_exists_0 : decode cX1_exists 0 = .ok (.aload_n 0, 1) := by decide +kernel
theorem dX1_exists_1 : decode cX1_exists 1 = .ok (.iload_n 1, 1) := by decide +kernel
theorem dX1_exists_2 : decode cX1_exists 2 = .ok (.invokevirtual 23, 3) := by decide +kernel
theorem dX1_exists_5 : decode cX1_exists 5 = .ok (.ifCond .eq 16, 3) := by decide +kernel
theorem dX1_exists_8 : decode cX1_exists 8 = .ok (.aload_n 0, 1) := by decide +kernel
theorem dX1_exists_9 : decode cX1_exists 9 = .ok (.getfield 7, 3) := by decide +kernel
theorem dX1_exists_12 : decode cX1_exists 12 = .ok (.iload_n 1, 1) := by decide +kernel
theorem dX1_exists_13 : decode cX1_exists 13 = .ok (.baload, 1) := by decide +kernel
theorem dX1_exists_14 : decode cX1_exists 14 = .ok (.ifCond .eq 7, 3) := by decide +kernel
theorem dX1_exists_17 : decode cX1_exists 17 = .ok (.iconst 1, 1) := by decide +kernel
theorem dX1_exists_18 : decode cX1_exists 18 = .ok (.goto 4, 3) := by decide +kernel
theorem dX1_exists_21 : decode cX1_exists 21 = .ok (.iconst 0, 1) := by decide +kernel
theorem dX1_exists_22 : decode cX1_exists 22 = .ok (.ireturn, 1) := by decide +kernel
theorem dX1_size_0 : decode cX1_size 0 = .ok (.aload_n 0, 1) := by decide +kernel
theorem dX1_size_1 : decode cX1_size 1 = .ok (.iload_n 1, 1) := by decide +kernel
theorem dX1_size_2 : decode cX1_size 2 = .ok (.invokevirtual 27, 3) := by decide +kernel
theorem dX1_size_5 : decode cX1_size 5 = .ok (.istore_n 2, 1) := by decide +kernel
theorem dX1_size_6 : decode cX1_size 6 = .ok (.iload_n 2, 1) := by decide +kernel
theorem dX1_size_7 : decode cX1_size 7 = .ok (.ifCond .ge 7, 3) := by decide +kernel
theorem dX1_size_10 : decode cX1_size 10 = .ok (.iload_n 2, 1) := by decide +kernel
theorem dX1_size_11 : decode cX1_size 11 = .ok (.goto 9, 3) := by decide +kernel
theorem dX1_size_14 : decode cX1_size 14 = .ok (.aload_n 0, 1) := by decide +kernel
theorem dX1_size_15 : decode cX1_size 15 = .ok (.getfield 13, 3) := by decide +kernel
theorem dX1_size_18 : decode cX1_size 18 = .ok (.iload_n 1, 1) := by decide +kernel
theorem dX1_size_19 : decode cX1_size 19 = .ok (.iaload, 1) := by decide +kernel
theorem dX1_size_20 : decode cX1_size 20 = .ok (.ireturn, 1) := by decide +kernel
theorem dX1_read_0 : decode cX1_read 0 = .ok (.aload_n 0, 1) := by decide +kernel
theorem dX1_read_1 : decode cX1_read 1 = .ok (.iload_n 1, 1) := by decide +kernel
theorem dX1_read_2 : decode cX1_read 2 = .ok (.invokevirtual 42, 3) := by decide +kernel
theorem dX1_read_5 : decode cX1_read 5 = .ok (.ifCond .eq 30, 3) := by decide +kernel
theorem dX1_read_8 : decode cX1_read 8 = .ok (.iload_n 2, 1) := by decide +kernel
theorem dX1_read_9 : decode cX1_read 9 = .ok (.ifCond .lt 26, 3) := by decide +kernel
theorem dX1_read_12 : decode cX1_read 12 = .ok (.iload_n 2, 1) := by decide +kernel
theorem dX1_read_13 : decode cX1_read 13 = .ok (.aload_n 0, 1) := by decide +kernel
theorem dX1_read_14 : decode cX1_read 14 = .ok (.getfield 13, 3) := by decide +kernel
theorem dX1_read_17 : decode cX1_read 17 = .ok (.iload_n 1, 1) := by decide +kernel
theorem dX1_read_18 : decode cX1_read 18 = .ok (.iaload, 1) := by decide +kernel
theorem dX1_read_19 : decode cX1_read 19 = .ok (.if_icmp .ge 16, 3) := by decide +kernel
theorem dX1_read_22 : decode cX1_read 22 = .ok (.aload_n 0, 1) := by decide +kernel
theorem dX1_read_23 : decode cX1_read 23 = .ok (.getfield 17, 3) := by decide +kernel
theorem dX1_read_26 : decode cX1_read 26 = .ok (.iconst 4, 1) := by decide +kernel
theorem dX1_read_27 : decode cX1_read 27 = .ok (.iload_n 1, 1) := by decide +kernel
theorem dX1_read_28 : decode cX1_read 28 = .ok (.imul, 1) := by decide +kernel
theorem dX1_read_29 : decode cX1_read 29 = .ok (.iload_n 2, 1) := by decide +kernel
theorem dX1_read_30 : decode cX1_read 30 = .ok (.iadd, 1) := by decide +kernel
theorem dX1_read_31 : decode cX1_read 31 = .ok (.iaload, 1) := by decide +kernel
theorem dX1_read_32 : decode cX1_read 32 = .ok (.goto 4, 3) := by decide +kernel
theorem dX1_read_35 : decode cX1_read 35 = .ok (.iconst 0, 1) := by decide +kernel
theorem dX1_read_36 : decode cX1_read 36 = .ok (.ireturn, 1) := by decide +kernel
theorem dX1_uns_0 : decode cX1_uns 0 = .ok (.iconst 0, 1) := by decide +kernel
theorem dX1_uns_1 : decode cX1_uns 1 = .ok (.istore_n 1, 1) := by decide +kernel
theorem dX1_uns_2 : decode cX1_uns 2 = .ok (.iconst 0, 1) := by decide +kernel
theorem dX1_uns_3 : decode cX1_uns 3 = .ok (.istore_n 2, 1) := by decide +kernel
theorem dX1_uns_4 : decode cX1_uns 4 = .ok (.iload_n 2, 1) := by decide +kernel
theorem dX1_uns_5 : decode cX1_uns 5 = .ok (.bipush 6, 2) := by decide +kernel
theorem dX1_uns_7 : decode cX1_uns 7 = .ok (.if_icmp .ge 25, 3) := by decide +kernel
theorem dX1_uns_10 : decode cX1_uns 10 = .ok (.aload_n 0, 1) := by decide +kernel
theorem dX1_uns_11 : decode cX1_uns 11 = .ok (.iload_n 2, 1) := by decide +kernel
theorem dX1_uns_12 : decode cX1_uns 12 = .ok (.invokevirtual 45, 3) := by decide +kernel
theorem dX1_uns_15 : decode cX1_uns 15 = .ok (.ifCond .eq 9, 3) := by decide +kernel
theorem dX1_uns_18 : decode cX1_uns 18 = .ok (.iload_n 1, 1) := by decide +kernel
theorem dX1_uns_19 : decode cX1_uns 19 = .ok (.iconst 1, 1) := by decide +kernel
theorem dX1_uns_20 : decode cX1_uns 20 = .ok (.iadd, 1) := by decide +kernel
theorem dX1_uns_21 : decode cX1_uns 21 = .ok (.goto 4, 3) := by decide +kernel
theorem dX1_uns_24 : decode cX1_uns 24 = .ok (.iload_n 1, 1) := by decide +kernel
theorem dX1_uns_25 : decode cX1_uns 25 = .ok (.istore_n 1, 1) := by decide +kernel
theorem dX1_uns_26 : decode cX1_uns 26 = .ok (.iinc 2 1, 3) := by decide +kernel
theorem dX1_uns_29 : decode cX1_uns 29 = .ok (.goto (-25), 3) := by decide +kernel
theorem dX1_uns_32 : decode cX1_uns 32 = .ok (.iload_n 1, 1) := by decide +kernel
theorem dX1_uns_33 : decode cX1_uns 33 = .ok (.ireturn, 1) := by decide +kernel
theorem dX1_differs_0 : decode cX1_differs 0 = .ok (.aload_n 0, 1) := by decide +kernel
theorem dX1_differs_1 : decode cX1_differs 1 = .ok (.getfield 7, 3) := by decide +kernel
theorem dX1_differs_4 : decode cX1_differs 4 = .ok (.iload_n 1, 1) := by decide +kernel
theorem dX1_differs_5 : decode cX1_differs 5 = .ok (.baload, 1) := by decide +kernel
theorem dX1_differs_6 : decode cX1_differs 6 = .ok (.aload_n 0, 1) := by decide +kernel
theorem dX1_differs_7 : decode cX1_differs 7 = .ok (.getfield 7, 3) := by decide +kernel
theorem dX1_differs_10 : decode cX1_differs 10 = .ok (.bipush 6, 2) := by decide +kernel
theorem dX1_differs_12 : decode cX1_differs 12 = .ok (.iload_n 1, 1) := by decide +kernel
theorem dX1_differs_13 : decode cX1_differs 13 = .ok (.iadd, 1) := by decide +kernel
theorem dX1_differs_14 : decode cX1_differs 14 = .ok (.baload, 1) := by decide +kernel
theorem dX1_differs_15 : decode cX1_differs 15 = .ok (.if_icmp .eq 5, 3) := by decide +kernel
theorem dX1_differs_18 : decode cX1_differs 18 = .ok (.iconst 1, 1) := by decide +kernel
theorem dX1_differs_19 : decode cX1_differs 19 = .ok (.ireturn, 1) := by decide +kernel
theorem dX1_differs_20 : decode cX1_differs 20 = .ok (.aload_n 0, 1) := by decide +kernel
theorem dX1_differs_21 : decode cX1_differs 21 = .ok (.getfield 7, 3) := by decide +kernel
theorem dX1_differs_24 : decode cX1_differs 24 = .ok (.iload_n 1, 1) := by decide +kernel
theorem dX1_differs_25 : decode cX1_differs 25 = .ok (.baload, 1) := by decide +kernel
theorem dX1_differs_26 : decode cX1_differs 26 = .ok (.ifCond .ne 5, 3) := by decide +kernel
theorem dX1_differs_29 : decode cX1_differs 29 = .ok (.iconst 0, 1) := by decide +kernel
theorem dX1_differs_30 : decode cX1_differs 30 = .ok (.ireturn, 1) := by decide +kernel
theorem dX1_differs_31 : decode cX1_differs 31 = .ok (.iconst 0, 1) := by decide +kernel
theorem dX1_differs_32 : decode cX1_differs 32 = .ok (.istore_n 2, 1) := by decide +kernel
theorem dX1_differs_33 : decode cX1_differs 33 = .ok (.iload_n 2, 1) := by decide +kernel
theorem dX1_differs_34 : decode cX1_differs 34 = .ok (.aload_n 0, 1) := by decide +kernel
theorem dX1_differs_35 : decode cX1_differs 35 = .ok (.getfield 13, 3) := by decide +kernel
theorem dX1_differs_38 : decode cX1_differs 38 = .ok (.iload_n 1, 1) := by decide +kernel
theorem dX1_differs_39 : decode cX1_differs 39 = .ok (.iaload, 1) := by decide +kernel
theorem dX1_differs_40 : decode cX1_differs 40 = .ok (.if_icmp .ge 37, 3) := by decide +kernel
theorem dX1_differs_43 : decode cX1_differs 43 = .ok (.aload_n 0, 1) := by decide +kernel
theorem dX1_differs_44 : decode cX1_differs 44 = .ok (.getfield 17, 3) := by decide +kernel
theorem dX1_differs_47 : decode cX1_differs 47 = .ok (.iconst 4, 1) := by decide +kernel
theorem dX1_differs_48 : decode cX1_differs 48 = .ok (.iload_n 1, 1) := by decide +kernel
theorem dX1_differs_49 : decode cX1_differs 49 = .ok (.imul, 1) := by decide +kernel
theorem dX1_differs_50 : decode cX1_differs 50 = .ok (.iload_n 2, 1) := by decide +kernel
theorem dX1_differs_51 : decode cX1_differs 51 = .ok (.iadd, 1) := by decide +kernel
theorem dX1_differs_52 : decode cX1_differs 52 = .ok (.iaload, 1) := by decide +kernel
theorem dX1_differs_53 : decode cX1_differs 53 = .ok (.aload_n 0, 1) := by decide +kernel
theorem dX1_differs_54 : decode cX1_differs 54 = .ok (.getfield 17, 3) := by decide +kernel
theorem dX1_differs_57 : decode cX1_differs 57 = .ok (.bipush 24, 2) := by decide +kernel
theorem dX1_differs_59 : decode cX1_differs 59 = .ok (.iconst 4, 1) := by decide +kernel
theorem dX1_differs_60 : decode cX1_differs 60 = .ok (.iload_n 1, 1) := by decide +kernel
theorem dX1_differs_61 : decode cX1_differs 61 = .ok (.imul, 1) := by decide +kernel
theorem dX1_differs_62 : decode cX1_differs 62 = .ok (.iadd, 1) := by decide +kernel
theorem dX1_differs_63 : decode cX1_differs 63 = .ok (.iload_n 2, 1) := by decide +kernel
theorem dX1_differs_64 : decode cX1_differs 64 = .ok (.iadd, 1) := by decide +kernel
theorem dX1_differs_65 : decode cX1_differs 65 = .ok (.iaload, 1) := by decide +kernel
theorem dX1_differs_66 : decode cX1_differs 66 = .ok (.if_icmp .eq 5, 3) := by decide +kernel
theorem dX1_differs_69 : decode cX1_differs 69 = .ok (.iconst 1, 1) := by decide +kernel
theorem dX1_differs_70 : decode cX1_differs 70 = .ok (.ireturn, 1) := by decide +kernel
theorem dX1_differs_71 : decode cX1_differs 71 = .ok (.iinc 2 1, 3) := by decide +kernel
theorem dX1_differs_74 : decode cX1_differs 74 = .ok (.goto (-41), 3) := by decide +kernel
theorem dX1_differs_77 : decode cX1_differs 77 = .ok (.aload_n 0, 1) := by decide +kernel
theorem dX1_differs_78 : decode cX1_differs 78 = .ok (.getfield 13, 3) := by decide +kernel
theorem dX1_differs_81 : decode cX1_differs 81 = .ok (.iload_n 1, 1) := by decide +kernel
theorem dX1_differs_82 : decode cX1_differs 82 = .ok (.iaload, 1) := by decide +kernel
theorem dX1_differs_83 : decode cX1_differs 83 = .ok (.aload_n 0, 1) := by decide +kernel
theorem dX1_differs_84 : decode cX1_differs 84 = .ok (.getfield 13, 3) := by decide +kernel
theorem dX1_differs_87 : decode cX1_differs 87 = .ok (.bipush 6, 2) := by decide +kernel
theorem dX1_differs_89 : decode cX1_differs 89 = .ok (.iload_n 1, 1) := by decide +kernel
theorem dX1_differs_90 : decode cX1_differs 90 = .ok (.iadd, 1) := by decide +kernel
theorem dX1_differs_91 : decode cX1_differs 91 = .ok (.iaload, 1) := by decide +kernel
theorem dX1_differs_92 : decode cX1_differs 92 = .ok (.if_icmp .eq 7, 3) := by decide +kernel
theorem dX1_differs_95 : decode cX1_differs 95 = .ok (.iconst 1, 1) := by decide +kernel
theorem dX1_differs_96 : decode cX1_differs 96 = .ok (.goto 4, 3) := by decide +kernel
theorem dX1_differs_99 : decode cX1_differs 99 = .ok (.iconst 0, 1) := by decide +kernel
theorem dX1_differs_100 : decode cX1_differs 100 = .ok (.ireturn, 1) := by decide +kernel
theorem dX1_digest_0 : decode cX1_digest 0 = .ok (.iconst 0, 1) := by decide +kernel
theorem dX1_digest_1 : decode cX1_digest 1 = .ok (.istore_n 1, 1) := by decide +kernel
theorem dX1_digest_2 : decode cX1_digest 2 = .ok (.iconst 0, 1) := by decide +kernel
theorem dX1_digest_3 : decode cX1_digest 3 = .ok (.istore_n 2, 1) := by decide +kernel
theorem dX1_digest_4 : decode cX1_digest 4 = .ok (.iload_n 2, 1) := by decide +kernel
theorem dX1_digest_5 : decode cX1_digest 5 = .ok (.bipush 6, 2) := by decide +kernel
theorem dX1_digest_7 : decode cX1_digest 7 = .ok (.if_icmp .ge 72, 3) := by decide +kernel
theorem dX1_digest_10 : decode cX1_digest 10 = .ok (.aload_n 0, 1) := by decide +kernel
theorem dX1_digest_11 : decode cX1_digest 11 = .ok (.getfield 7, 3) := by decide +kernel
theorem dX1_digest_14 : decode cX1_digest 14 = .ok (.iload_n 2, 1) := by decide +kernel
theorem dX1_digest_15 : decode cX1_digest 15 = .ok (.baload, 1) := by decide +kernel
theorem dX1_digest_16 : decode cX1_digest 16 = .ok (.ifCond .eq 24, 3) := by decide +kernel
theorem dX1_digest_19 : decode cX1_digest 19 = .ok (.iload_n 1, 1) := by decide +kernel
theorem dX1_digest_20 : decode cX1_digest 20 = .ok (.sipush 1000, 3) := by decide +kernel
theorem dX1_digest_23 : decode cX1_digest 23 = .ok (.iload_n 2, 1) := by decide +kernel
theorem dX1_digest_24 : decode cX1_digest 24 = .ok (.iconst 1, 1) := by decide +kernel
theorem dX1_digest_25 : decode cX1_digest 25 = .ok (.iadd, 1) := by decide +kernel
theorem dX1_digest_26 : decode cX1_digest 26 = .ok (.imul, 1) := by decide +kernel
theorem dX1_digest_27 : decode cX1_digest 27 = .ok (.aload_n 0, 1) := by decide +kernel
theorem dX1_digest_28 : decode cX1_digest 28 = .ok (.getfield 13, 3) := by decide +kernel
theorem dX1_digest_31 : decode cX1_digest 31 = .ok (.iload_n 2, 1) := by decide +kernel
theorem dX1_digest_32 : decode cX1_digest 32 = .ok (.iaload, 1) := by decide +kernel
theorem dX1_digest_33 : decode cX1_digest 33 = .ok (.iconst 1, 1) := by decide +kernel
theorem dX1_digest_34 : decode cX1_digest 34 = .ok (.iadd, 1) := by decide +kernel
theorem dX1_digest_35 : decode cX1_digest 35 = .ok (.imul, 1) := by decide +kernel
theorem dX1_digest_36 : decode cX1_digest 36 = .ok (.iadd, 1) := by decide +kernel
theorem dX1_digest_37 : decode cX1_digest 37 = .ok (.goto 4, 3) := by decide +kernel
theorem dX1_digest_40 : decode cX1_digest 40 = .ok (.iload_n 1, 1) := by decide +kernel
theorem dX1_digest_41 : decode cX1_digest 41 = .ok (.istore_n 1, 1) := by decide +kernel
theorem dX1_digest_42 : decode cX1_digest 42 = .ok (.iconst 0, 1) := by decide +kernel
theorem dX1_digest_43 : decode cX1_digest 43 = .ok (.istore_n 3, 1) := by decide +kernel
theorem dX1_digest_44 : decode cX1_digest 44 = .ok (.iload_n 3, 1) := by decide +kernel
theorem dX1_digest_45 : decode cX1_digest 45 = .ok (.iconst 4, 1) := by decide +kernel
theorem dX1_digest_46 : decode cX1_digest 46 = .ok (.if_icmp .ge 27, 3) := by decide +kernel
theorem dX1_digest_49 : decode cX1_digest 49 = .ok (.iload_n 1, 1) := by decide +kernel
theorem dX1_digest_50 : decode cX1_digest 50 = .ok (.bipush 8, 2) := by decide +kernel
theorem dX1_digest_52 : decode cX1_digest 52 = .ok (.iload_n 2, 1) := by decide +kernel
theorem dX1_digest_53 : decode cX1_digest 53 = .ok (.imul, 1) := by decide +kernel
theorem dX1_digest_54 : decode cX1_digest 54 = .ok (.iload_n 3, 1) := by decide +kernel
theorem dX1_digest_55 : decode cX1_digest 55 = .ok (.iadd, 1) := by decide +kernel
theorem dX1_digest_56 : decode cX1_digest 56 = .ok (.iconst 1, 1) := by decide +kernel
theorem dX1_digest_57 : decode cX1_digest 57 = .ok (.iadd, 1) := by decide +kernel
theorem dX1_digest_58 : decode cX1_digest 58 = .ok (.aload_n 0, 1) := by decide +kernel
theorem dX1_digest_59 : decode cX1_digest 59 = .ok (.iload_n 2, 1) := by decide +kernel
theorem dX1_digest_60 : decode cX1_digest 60 = .ok (.iload_n 3, 1) := by decide +kernel
theorem dX1_digest_61 : decode cX1_digest 61 = .ok (.invokevirtual 48, 3) := by decide +kernel
theorem dX1_digest_64 : decode cX1_digest 64 = .ok (.imul, 1) := by decide +kernel
theorem dX1_digest_65 : decode cX1_digest 65 = .ok (.iadd, 1) := by decide +kernel
theorem dX1_digest_66 : decode cX1_digest 66 = .ok (.istore_n 1, 1) := by decide +kernel
theorem dX1_digest_67 : decode cX1_digest 67 = .ok (.iinc 3 1, 3) := by decide +kernel
theorem dX1_digest_70 : decode cX1_digest 70 = .ok (.goto (-26), 3) := by decide +kernel
theorem dX1_digest_73 : decode cX1_digest 73 = .ok (.iinc 2 1, 3) := by decide +kernel
theorem dX1_digest_76 : decode cX1_digest 76 = .ok (.goto (-72), 3) := by decide +kernel
theorem dX1_digest_79 : decode cX1_digest 79 = .ok (.iload_n 1, 1) := by decide +kernel
theorem dX1_digest_80 : decode cX1_digest 80 = .ok (.ireturn, 1) := by decide +kernel
end
section
set_option maxRecDepth 100000
theorem dL_law_0 : decode cL_law 0 = .ok (.new 7, 3) := by decide +kernel
theorem dL_law_3 : decode cL_law 3 = .ok (.dup, 1) := by decide +kernel
theorem dL_law_4 : decode cL_law 4 = .ok (.invokespecial 9, 3) := by decide +kernel
theorem dL_law_7 : decode cL_law 7 = .ok (.astore_n 1, 1) := by decide +kernel
theorem dL_law_8 : decode cL_law 8 = .ok (.new 10, 3) := by decide +kernel
theorem dL_law_11 : decode cL_law 11 = .ok (.dup, 1) := by decide +kernel
theorem dL_law_12 : decode cL_law 12 = .ok (.invokespecial 12, 3) := by decide +kernel
theorem dL_law_15 : decode cL_law 15 = .ok (.astore_n 2, 1) := by decide +kernel
theorem dL_law_16 : decode cL_law 16 = .ok (.iconst 0, 1) := by decide +kernel
theorem dL_law_17 : decode cL_law 17 = .ok (.istore_n 3, 1) := by decide +kernel
theorem dL_law_18 : decode cL_law 18 = .ok (.iload_n 3, 1) := by decide +kernel
theorem dL_law_19 : decode cL_law 19 = .ok (.aload_n 0, 1) := by decide +kernel
theorem dL_law_20 : decode cL_law 20 = .ok (.arraylength, 1) := by decide +kernel
theorem dL_law_21 : decode cL_law 21 = .ok (.iconst 4, 1) := by decide +kernel
theorem dL_law_22 : decode cL_law 22 = .ok (.isub, 1) := by decide +kernel
theorem dL_law_23 : decode cL_law 23 = .ok (.if_icmp .gt 392, 3) := by decide +kernel
theorem dL_law_26 : decode cL_law 26 = .ok (.aload_n 0, 1) := by decide +kernel
theorem dL_law_27 : decode cL_law 27 = .ok (.iload_n 3, 1) := by decide +kernel
theorem dL_law_28 : decode cL_law 28 = .ok (.iaload, 1) := by decide +kernel
theorem dL_law_29 : decode cL_law 29 = .ok (.bipush 15, 2) := by decide +kernel
theorem dL_law_31 : decode cL_law 31 = .ok (.iand, 1) := by decide +kernel
theorem dL_law_32 : decode cL_law 32 = .ok (.tableswitch 377 0 12 #[68, 91, 114, 157, 190, 223, 246, 259, 272, 295, 318, 351, 364], 68) := by decide +kernel
theorem dL_law_100 : decode cL_law 100 = .ok (.aload_n 1, 1) := by decide +kernel
theorem dL_law_101 : decode cL_law 101 = .ok (.aload_n 0, 1) := by decide +kernel
theorem dL_law_102 : decode cL_law 102 = .ok (.iload_n 3, 1) := by decide +kernel
theorem dL_law_103 : decode cL_law 103 = .ok (.iconst 1, 1) := by decide +kernel
theorem dL_law_104 : decode cL_law 104 = .ok (.iadd, 1) := by decide +kernel
theorem dL_law_105 : decode cL_law 105 = .ok (.iaload, 1) := by decide +kernel
theorem dL_law_106 : decode cL_law 106 = .ok (.invokevirtual 13, 3) := by decide +kernel
theorem dL_law_109 : decode cL_law 109 = .ok (.aload_n 2, 1) := by decide +kernel
theorem dL_law_110 : decode cL_law 110 = .ok (.aload_n 0, 1) := by decide +kernel
theorem dL_law_111 : decode cL_law 111 = .ok (.iload_n 3, 1) := by decide +kernel
theorem dL_law_112 : decode cL_law 112 = .ok (.iconst 1, 1) := by decide +kernel
theorem dL_law_113 : decode cL_law 113 = .ok (.iadd, 1) := by decide +kernel
theorem dL_law_114 : decode cL_law 114 = .ok (.iaload, 1) := by decide +kernel
theorem dL_law_115 : decode cL_law 115 = .ok (.invokevirtual 17, 3) := by decide +kernel
theorem dL_law_118 : decode cL_law 118 = .ok (.if_icmp .eq 291, 3) := by decide +kernel
theorem dL_law_121 : decode cL_law 121 = .ok (.iconst 0, 1) := by decide +kernel
theorem dL_law_122 : decode cL_law 122 = .ok (.ireturn, 1) := by decide +kernel
theorem dL_law_123 : decode cL_law 123 = .ok (.aload_n 1, 1) := by decide +kernel
theorem dL_law_124 : decode cL_law 124 = .ok (.aload_n 0, 1) := by decide +kernel
theorem dL_law_125 : decode cL_law 125 = .ok (.iload_n 3, 1) := by decide +kernel
theorem dL_law_126 : decode cL_law 126 = .ok (.iconst 1, 1) := by decide +kernel
theorem dL_law_127 : decode cL_law 127 = .ok (.iadd, 1) := by decide +kernel
theorem dL_law_128 : decode cL_law 128 = .ok (.iaload, 1) := by decide +kernel
theorem dL_law_129 : decode cL_law 129 = .ok (.invokevirtual 18, 3) := by decide +kernel
theorem dL_law_132 : decode cL_law 132 = .ok (.aload_n 2, 1) := by decide +kernel
theorem dL_law_133 : decode cL_law 133 = .ok (.aload_n 0, 1) := by decide +kernel
theorem dL_law_134 : decode cL_law 134 = .ok (.iload_n 3, 1) := by decide +kernel
theorem dL_law_135 : decode cL_law 135 = .ok (.iconst 1, 1) := by decide +kernel
theorem dL_law_136 : decode cL_law 136 = .ok (.iadd, 1) := by decide +kernel
theorem dL_law_137 : decode cL_law 137 = .ok (.iaload, 1) := by decide +kernel
theorem dL_law_138 : decode cL_law 138 = .ok (.invokevirtual 21, 3) := by decide +kernel
theorem dL_law_141 : decode cL_law 141 = .ok (.if_icmp .eq 268, 3) := by decide +kernel
theorem dL_law_144 : decode cL_law 144 = .ok (.iconst 0, 1) := by decide +kernel
theorem dL_law_145 : decode cL_law 145 = .ok (.ireturn, 1) := by decide +kernel
theorem dL_law_146 : decode cL_law 146 = .ok (.aload_n 1, 1) := by decide +kernel
theorem dL_law_147 : decode cL_law 147 = .ok (.aload_n 0, 1) := by decide +kernel
theorem dL_law_148 : decode cL_law 148 = .ok (.iload_n 3, 1) := by decide +kernel
theorem dL_law_149 : decode cL_law 149 = .ok (.iconst 1, 1) := by decide +kernel
theorem dL_law_150 : decode cL_law 150 = .ok (.iadd, 1) := by decide +kernel
theorem dL_law_151 : decode cL_law 151 = .ok (.iaload, 1) := by decide +kernel
theorem dL_law_152 : decode cL_law 152 = .ok (.aload_n 0, 1) := by decide +kernel
theorem dL_law_153 : decode cL_law 153 = .ok (.iload_n 3, 1) := by decide +kernel
theorem dL_law_154 : decode cL_law 154 = .ok (.iconst 2, 1) := by decide +kernel
theorem dL_law_155 : decode cL_law 155 = .ok (.iadd, 1) := by decide +kernel
theorem dL_law_156 : decode cL_law 156 = .ok (.iaload, 1) := by decide +kernel
theorem dL_law_157 : decode cL_law 157 = .ok (.aload_n 0, 1) := by decide +kernel
theorem dL_law_158 : decode cL_law 158 = .ok (.iload_n 3, 1) := by decide +kernel
theorem dL_law_159 : decode cL_law 159 = .ok (.iconst 3, 1) := by decide +kernel
theorem dL_law_160 : decode cL_law 160 = .ok (.iadd, 1) := by decide +kernel
theorem dL_law_161 : decode cL_law 161 = .ok (.iaload, 1) := by decide +kernel
theorem dL_law_162 : decode cL_law 162 = .ok (.invokevirtual 22, 3) := by decide +kernel
theorem dL_law_165 : decode cL_law 165 = .ok (.aload_n 2, 1) := by decide +kernel
theorem dL_law_166 : decode cL_law 166 = .ok (.aload_n 0, 1) := by decide +kernel
theorem dL_law_167 : decode cL_law 167 = .ok (.iload_n 3, 1) := by decide +kernel
theorem dL_law_168 : decode cL_law 168 = .ok (.iconst 1, 1) := by decide +kernel
theorem dL_law_169 : decode cL_law 169 = .ok (.iadd, 1) := by decide +kernel
theorem dL_law_170 : decode cL_law 170 = .ok (.iaload, 1) := by decide +kernel
theorem dL_law_171 : decode cL_law 171 = .ok (.aload_n 0, 1) := by decide +kernel
theorem dL_law_172 : decode cL_law 172 = .ok (.iload_n 3, 1) := by decide +kernel
theorem dL_law_173 : decode cL_law 173 = .ok (.iconst 2, 1) := by decide +kernel
theorem dL_law_174 : decode cL_law 174 = .ok (.iadd, 1) := by decide +kernel
theorem dL_law_175 : decode cL_law 175 = .ok (.iaload, 1) := by decide +kernel
theorem dL_law_176 : decode cL_law 176 = .ok (.aload_n 0, 1) := by decide +kernel
theorem dL_law_177 : decode cL_law 177 = .ok (.iload_n 3, 1) := by decide +kernel
theorem dL_law_178 : decode cL_law 178 = .ok (.iconst 3, 1) := by decide +kernel
theorem dL_law_179 : decode cL_law 179 = .ok (.iadd, 1) := by decide +kernel
theorem dL_law_180 : decode cL_law 180 = .ok (.iaload, 1) := by decide +kernel
theorem dL_law_181 : decode cL_law 181 = .ok (.invokevirtual 26, 3) := by decide +kernel
theorem dL_law_184 : decode cL_law 184 = .ok (.if_icmp .eq 225, 3) := by decide +kernel
theorem dL_law_187 : decode cL_law 187 = .ok (.iconst 0, 1) := by decide +kernel
theorem dL_law_188 : decode cL_law 188 = .ok (.ireturn, 1) := by decide +kernel
theorem dL_law_189 : decode cL_law 189 = .ok (.aload_n 1, 1) := by decide +kernel
theorem dL_law_190 : decode cL_law 190 = .ok (.aload_n 0, 1) := by decide +kernel
theorem dL_law_191 : decode cL_law 191 = .ok (.iload_n 3, 1) := by decide +kernel
theorem dL_law_192 : decode cL_law 192 = .ok (.iconst 1, 1) := by decide +kernel
theorem dL_law_193 : decode cL_law 193 = .ok (.iadd, 1) := by decide +kernel
theorem dL_law_194 : decode cL_law 194 = .ok (.iaload, 1) := by decide +kernel
theorem dL_law_195 : decode cL_law 195 = .ok (.aload_n 0, 1) := by decide +kernel
theorem dL_law_196 : decode cL_law 196 = .ok (.iload_n 3, 1) := by decide +kernel
theorem dL_law_197 : decode cL_law 197 = .ok (.iconst 2, 1) := by decide +kernel
theorem dL_law_198 : decode cL_law 198 = .ok (.iadd, 1) := by decide +kernel
theorem dL_law_199 : decode cL_law 199 = .ok (.iaload, 1) := by decide +kernel
theorem dL_law_200 : decode cL_law 200 = .ok (.invokevirtual 27, 3) := by decide +kernel
theorem dL_law_203 : decode cL_law 203 = .ok (.aload_n 2, 1) := by decide +kernel
theorem dL_law_204 : decode cL_law 204 = .ok (.aload_n 0, 1) := by decide +kernel
theorem dL_law_205 : decode cL_law 205 = .ok (.iload_n 3, 1) := by decide +kernel
theorem dL_law_206 : decode cL_law 206 = .ok (.iconst 1, 1) := by decide +kernel
theorem dL_law_207 : decode cL_law 207 = .ok (.iadd, 1) := by decide +kernel
theorem dL_law_208 : decode cL_law 208 = .ok (.iaload, 1) := by decide +kernel
theorem dL_law_209 : decode cL_law 209 = .ok (.aload_n 0, 1) := by decide +kernel
theorem dL_law_210 : decode cL_law 210 = .ok (.iload_n 3, 1) := by decide +kernel
theorem dL_law_211 : decode cL_law 211 = .ok (.iconst 2, 1) := by decide +kernel
theorem dL_law_212 : decode cL_law 212 = .ok (.iadd, 1) := by decide +kernel
theorem dL_law_213 : decode cL_law 213 = .ok (.iaload, 1) := by decide +kernel
theorem dL_law_214 : decode cL_law 214 = .ok (.invokevirtual 31, 3) := by decide +kernel
theorem dL_law_217 : decode cL_law 217 = .ok (.if_icmp .eq 192, 3) := by decide +kernel
theorem dL_law_220 : decode cL_law 220 = .ok (.iconst 0, 1) := by decide +kernel
theorem dL_law_221 : decode cL_law 221 = .ok (.ireturn, 1) := by decide +kernel
theorem dL_law_222 : decode cL_law 222 = .ok (.aload_n 1, 1) := by decide +kernel
theorem dL_law_223 : decode cL_law 223 = .ok (.aload_n 0, 1) := by decide +kernel
theorem dL_law_224 : decode cL_law 224 = .ok (.iload_n 3, 1) := by decide +kernel
theorem dL_law_225 : decode cL_law 225 = .ok (.iconst 1, 1) := by decide +kernel
theorem dL_law_226 : decode cL_law 226 = .ok (.iadd, 1) := by decide +kernel
theorem dL_law_227 : decode cL_law 227 = .ok (.iaload, 1) := by decide +kernel
theorem dL_law_228 : decode cL_law 228 = .ok (.aload_n 0, 1) := by decide +kernel
theorem dL_law_229 : decode cL_law 229 = .ok (.iload_n 3, 1) := by decide +kernel
theorem dL_law_230 : decode cL_law 230 = .ok (.iconst 2, 1) := by decide +kernel
theorem dL_law_231 : decode cL_law 231 = .ok (.iadd, 1) := by decide +kernel
end
section
set_option maxRecDepth 100000
theorem dL_law_232 : decode cL_law 232 = .ok (.iaload, 1) := by decide +kernel
theorem dL_law_233 : decode cL_law 233 = .ok (.invokevirtual 32, 3) := by decide +kernel
theorem dL_law_236 : decode cL_law 236 = .ok (.aload_n 2, 1) := by decide +kernel
theorem dL_law_237 : decode cL_law 237 = .ok (.aload_n 0, 1) := by decide +kernel
theorem dL_law_238 : decode cL_law 238 = .ok (.iload_n 3, 1) := by decide +kernel
theorem dL_law_239 : decode cL_law 239 = .ok (.iconst 1, 1) := by decide +kernel
theorem dL_law_240 : decode cL_law 240 = .ok (.iadd, 1) := by decide +kernel
theorem dL_law_241 : decode cL_law 241 = .ok (.iaload, 1) := by decide +kernel
theorem dL_law_242 : decode cL_law 242 = .ok (.aload_n 0, 1) := by decide +kernel
theorem dL_law_243 : decode cL_law 243 = .ok (.iload_n 3, 1) := by decide +kernel
theorem dL_law_244 : decode cL_law 244 = .ok (.iconst 2, 1) := by decide +kernel
theorem dL_law_245 : decode cL_law 245 = .ok (.iadd, 1) := by decide +kernel
theorem dL_law_246 : decode cL_law 246 = .ok (.iaload, 1) := by decide +kernel
theorem dL_law_247 : decode cL_law 247 = .ok (.invokevirtual 35, 3) := by decide +kernel
theorem dL_law_250 : decode cL_law 250 = .ok (.if_icmp .eq 159, 3) := by decide +kernel
theorem dL_law_253 : decode cL_law 253 = .ok (.iconst 0, 1) := by decide +kernel
theorem dL_law_254 : decode cL_law 254 = .ok (.ireturn, 1) := by decide +kernel
theorem dL_law_255 : decode cL_law 255 = .ok (.aload_n 1, 1) := by decide +kernel
theorem dL_law_256 : decode cL_law 256 = .ok (.aload_n 0, 1) := by decide +kernel
theorem dL_law_257 : decode cL_law 257 = .ok (.iload_n 3, 1) := by decide +kernel
theorem dL_law_258 : decode cL_law 258 = .ok (.iconst 1, 1) := by decide +kernel
theorem dL_law_259 : decode cL_law 259 = .ok (.iadd, 1) := by decide +kernel
theorem dL_law_260 : decode cL_law 260 = .ok (.iaload, 1) := by decide +kernel
theorem dL_law_261 : decode cL_law 261 = .ok (.invokevirtual 36, 3) := by decide +kernel
theorem dL_law_264 : decode cL_law 264 = .ok (.aload_n 2, 1) := by decide +kernel
theorem dL_law_265 : decode cL_law 265 = .ok (.aload_n 0, 1) := by decide +kernel
theorem dL_law_266 : decode cL_law 266 = .ok (.iload_n 3, 1) := by decide +kernel
theorem dL_law_267 : decode cL_law 267 = .ok (.iconst 1, 1) := by decide +kernel
theorem dL_law_268 : decode cL_law 268 = .ok (.iadd, 1) := by decide +kernel
theorem dL_law_269 : decode cL_law 269 = .ok (.iaload, 1) := by decide +kernel
theorem dL_law_270 : decode cL_law 270 = .ok (.invokevirtual 39, 3) := by decide +kernel
theorem dL_law_273 : decode cL_law 273 = .ok (.if_icmp .eq 136, 3) := by decide +kernel
theorem dL_law_276 : decode cL_law 276 = .ok (.iconst 0, 1) := by decide +kernel
theorem dL_law_277 : decode cL_law 277 = .ok (.ireturn, 1) := by decide +kernel
theorem dL_law_278 : decode cL_law 278 = .ok (.aload_n 1, 1) := by decide +kernel
theorem dL_law_279 : decode cL_law 279 = .ok (.invokevirtual 40, 3) := by decide +kernel
theorem dL_law_282 : decode cL_law 282 = .ok (.aload_n 2, 1) := by decide +kernel
theorem dL_law_283 : decode cL_law 283 = .ok (.invokevirtual 44, 3) := by decide +kernel
theorem dL_law_286 : decode cL_law 286 = .ok (.if_icmp .eq 123, 3) := by decide +kernel
theorem dL_law_289 : decode cL_law 289 = .ok (.iconst 0, 1) := by decide +kernel
theorem dL_law_290 : decode cL_law 290 = .ok (.ireturn, 1) := by decide +kernel
theorem dL_law_291 : decode cL_law 291 = .ok (.aload_n 1, 1) := by decide +kernel
theorem dL_law_292 : decode cL_law 292 = .ok (.invokevirtual 45, 3) := by decide +kernel
theorem dL_law_295 : decode cL_law 295 = .ok (.aload_n 2, 1) := by decide +kernel
theorem dL_law_296 : decode cL_law 296 = .ok (.invokevirtual 48, 3) := by decide +kernel
theorem dL_law_299 : decode cL_law 299 = .ok (.if_icmp .eq 110, 3) := by decide +kernel
theorem dL_law_302 : decode cL_law 302 = .ok (.iconst 0, 1) := by decide +kernel
theorem dL_law_303 : decode cL_law 303 = .ok (.ireturn, 1) := by decide +kernel
theorem dL_law_304 : decode cL_law 304 = .ok (.aload_n 1, 1) := by decide +kernel
theorem dL_law_305 : decode cL_law 305 = .ok (.aload_n 0, 1) := by decide +kernel
theorem dL_law_306 : decode cL_law 306 = .ok (.iload_n 3, 1) := by decide +kernel
theorem dL_law_307 : decode cL_law 307 = .ok (.iconst 1, 1) := by decide +kernel
theorem dL_law_308 : decode cL_law 308 = .ok (.iadd, 1) := by decide +kernel
theorem dL_law_309 : decode cL_law 309 = .ok (.iaload, 1) := by decide +kernel
theorem dL_law_310 : decode cL_law 310 = .ok (.invokevirtual 49, 3) := by decide +kernel
theorem dL_law_313 : decode cL_law 313 = .ok (.aload_n 2, 1) := by decide +kernel
theorem dL_law_314 : decode cL_law 314 = .ok (.aload_n 0, 1) := by decide +kernel
theorem dL_law_315 : decode cL_law 315 = .ok (.iload_n 3, 1) := by decide +kernel
theorem dL_law_316 : decode cL_law 316 = .ok (.iconst 1, 1) := by decide +kernel
theorem dL_law_317 : decode cL_law 317 = .ok (.iadd, 1) := by decide +kernel
theorem dL_law_318 : decode cL_law 318 = .ok (.iaload, 1) := by decide +kernel
theorem dL_law_319 : decode cL_law 319 = .ok (.invokevirtual 53, 3) := by decide +kernel
theorem dL_law_322 : decode cL_law 322 = .ok (.if_icmp .eq 87, 3) := by decide +kernel
theorem dL_law_325 : decode cL_law 325 = .ok (.iconst 0, 1) := by decide +kernel
theorem dL_law_326 : decode cL_law 326 = .ok (.ireturn, 1) := by decide +kernel
theorem dL_law_327 : decode cL_law 327 = .ok (.aload_n 1, 1) := by decide +kernel
theorem dL_law_328 : decode cL_law 328 = .ok (.aload_n 0, 1) := by decide +kernel
theorem dL_law_329 : decode cL_law 329 = .ok (.iload_n 3, 1) := by decide +kernel
theorem dL_law_330 : decode cL_law 330 = .ok (.iconst 1, 1) := by decide +kernel
theorem dL_law_331 : decode cL_law 331 = .ok (.iadd, 1) := by decide +kernel
theorem dL_law_332 : decode cL_law 332 = .ok (.iaload, 1) := by decide +kernel
theorem dL_law_333 : decode cL_law 333 = .ok (.invokevirtual 54, 3) := by decide +kernel
theorem dL_law_336 : decode cL_law 336 = .ok (.aload_n 2, 1) := by decide +kernel
theorem dL_law_337 : decode cL_law 337 = .ok (.aload_n 0, 1) := by decide +kernel
theorem dL_law_338 : decode cL_law 338 = .ok (.iload_n 3, 1) := by decide +kernel
theorem dL_law_339 : decode cL_law 339 = .ok (.iconst 1, 1) := by decide +kernel
theorem dL_law_340 : decode cL_law 340 = .ok (.iadd, 1) := by decide +kernel
theorem dL_law_341 : decode cL_law 341 = .ok (.iaload, 1) := by decide +kernel
theorem dL_law_342 : decode cL_law 342 = .ok (.invokevirtual 57, 3) := by decide +kernel
theorem dL_law_345 : decode cL_law 345 = .ok (.if_icmp .eq 64, 3) := by decide +kernel
theorem dL_law_348 : decode cL_law 348 = .ok (.iconst 0, 1) := by decide +kernel
theorem dL_law_349 : decode cL_law 349 = .ok (.ireturn, 1) := by decide +kernel
theorem dL_law_350 : decode cL_law 350 = .ok (.aload_n 1, 1) := by decide +kernel
theorem dL_law_351 : decode cL_law 351 = .ok (.aload_n 0, 1) := by decide +kernel
theorem dL_law_352 : decode cL_law 352 = .ok (.iload_n 3, 1) := by decide +kernel
theorem dL_law_353 : decode cL_law 353 = .ok (.iconst 1, 1) := by decide +kernel
theorem dL_law_354 : decode cL_law 354 = .ok (.iadd, 1) := by decide +kernel
theorem dL_law_355 : decode cL_law 355 = .ok (.iaload, 1) := by decide +kernel
theorem dL_law_356 : decode cL_law 356 = .ok (.aload_n 0, 1) := by decide +kernel
theorem dL_law_357 : decode cL_law 357 = .ok (.iload_n 3, 1) := by decide +kernel
theorem dL_law_358 : decode cL_law 358 = .ok (.iconst 2, 1) := by decide +kernel
theorem dL_law_359 : decode cL_law 359 = .ok (.iadd, 1) := by decide +kernel
theorem dL_law_360 : decode cL_law 360 = .ok (.iaload, 1) := by decide +kernel
theorem dL_law_361 : decode cL_law 361 = .ok (.invokevirtual 58, 3) := by decide +kernel
theorem dL_law_364 : decode cL_law 364 = .ok (.aload_n 2, 1) := by decide +kernel
theorem dL_law_365 : decode cL_law 365 = .ok (.aload_n 0, 1) := by decide +kernel
theorem dL_law_366 : decode cL_law 366 = .ok (.iload_n 3, 1) := by decide +kernel
theorem dL_law_367 : decode cL_law 367 = .ok (.iconst 1, 1) := by decide +kernel
theorem dL_law_368 : decode cL_law 368 = .ok (.iadd, 1) := by decide +kernel
theorem dL_law_369 : decode cL_law 369 = .ok (.iaload, 1) := by decide +kernel
theorem dL_law_370 : decode cL_law 370 = .ok (.aload_n 0, 1) := by decide +kernel
theorem dL_law_371 : decode cL_law 371 = .ok (.iload_n 3, 1) := by decide +kernel
theorem dL_law_372 : decode cL_law 372 = .ok (.iconst 2, 1) := by decide +kernel
theorem dL_law_373 : decode cL_law 373 = .ok (.iadd, 1) := by decide +kernel
theorem dL_law_374 : decode cL_law 374 = .ok (.iaload, 1) := by decide +kernel
theorem dL_law_375 : decode cL_law 375 = .ok (.invokevirtual 61, 3) := by decide +kernel
theorem dL_law_378 : decode cL_law 378 = .ok (.if_icmp .eq 31, 3) := by decide +kernel
theorem dL_law_381 : decode cL_law 381 = .ok (.iconst 0, 1) := by decide +kernel
theorem dL_law_382 : decode cL_law 382 = .ok (.ireturn, 1) := by decide +kernel
theorem dL_law_383 : decode cL_law 383 = .ok (.aload_n 1, 1) := by decide +kernel
theorem dL_law_384 : decode cL_law 384 = .ok (.invokevirtual 62, 3) := by decide +kernel
theorem dL_law_387 : decode cL_law 387 = .ok (.aload_n 2, 1) := by decide +kernel
theorem dL_law_388 : decode cL_law 388 = .ok (.invokevirtual 65, 3) := by decide +kernel
theorem dL_law_391 : decode cL_law 391 = .ok (.if_icmp .eq 18, 3) := by decide +kernel
theorem dL_law_394 : decode cL_law 394 = .ok (.iconst 0, 1) := by decide +kernel
theorem dL_law_395 : decode cL_law 395 = .ok (.ireturn, 1) := by decide +kernel
theorem dL_law_396 : decode cL_law 396 = .ok (.aload_n 1, 1) := by decide +kernel
theorem dL_law_397 : decode cL_law 397 = .ok (.invokevirtual 66, 3) := by decide +kernel
theorem dL_law_400 : decode cL_law 400 = .ok (.aload_n 2, 1) := by decide +kernel
theorem dL_law_401 : decode cL_law 401 = .ok (.invokevirtual 69, 3) := by decide +kernel
theorem dL_law_404 : decode cL_law 404 = .ok (.if_icmp .eq 5, 3) := by decide +kernel
theorem dL_law_407 : decode cL_law 407 = .ok (.iconst 0, 1) := by decide +kernel
theorem dL_law_408 : decode cL_law 408 = .ok (.ireturn, 1) := by decide +kernel
theorem dL_law_409 : decode cL_law 409 = .ok (.iinc 3 4, 3) := by decide +kernel
theorem dL_law_412 : decode cL_law 412 = .ok (.goto (-394), 3) := by decide +kernel
theorem dL_law_415 : decode cL_law 415 = .ok (.iconst 1, 1) := by decide +kernel
theorem dL_law_416 : decode cL_law 416 = .ok (.ireturn, 1) := by decide +kernel
end
section
/-! THE LAYER J: a judgement over the picture of the heap alone (heap, locals' array and frame are hidden); numbers are Ints, put into the machine by Int32.ofInt -/
set_option maxRecDepth 100000
abbrev vwCl : List vw_C := [(RX0, TX0, 18), (RX1, TX1, 4)]
abbrev PS : Type := Nat → Int → Int
abbrev iv (a : Int) : Value := Value.int (Int32.ofInt a)
abbrev rmo (fr lo : Nat) : Room := { frames := fr, cells := 0, slots := 0, locals := lo }
/-- state st with place a of array k set to b -/
def sw (st : PS) (k : Nat) (a b : Int) : PS := fun k' a' => if k' = k ∧ a' = a then b else st k' a'
theorem sw_ne {st : PS} {k k' : Nat} {a b : Int} (h : k' ≠ k) : sw st k a b k' = st k' := by funext q; simp [sw, h]
theorem sw_eq (st : PS) (k : Nat) (a b : Int) : sw st k a b k a = b := by simp [sw]
theorem sw_na {st : PS} {k k' : Nat} {a a' b : Int} (h : a' ≠ a) : sw st k a b k' a' = st k' a' := by simp [sw, h]
/-- the array k of the state, as the machine has it -/
def ca (st : PS) (k : Nat) : Nat → Int32 := fun q => Int32.ofInt (st k (q : Int))
theorem ca_ne {st : PS} {k k' : Nat} {a b : Int} (h : k' ≠ k) : ca (sw st k a b) k' = ca st k' := by funext q; simp [ca, sw, h]
theorem ca_eq {st : PS} {k : Nat} {a b : Int} (h : 0 ≤ a) : upd (ca st k) a.toNat (Int32.ofInt b) = ca (sw st k a b) k := by
  funext q
  by_cases hq : q = a.toNat
  · subst hq
    simp [ca, sw, upd, Int.toNat_of_nonneg h]
  · have h2 : (q : Int) ≠ a := by omega
    simp [ca, sw, upd, hq, h2]
theorem iv_add (a b : Int) : Value.int (Int32.ofInt a + Int32.ofInt b) = iv (a + b) := by rw [iv, Int32.ofInt_add]
theorem iv_sub (a b : Int) : Value.int (Int32.ofInt a - Int32.ofInt b) = iv (a - b) := by rw [iv, Int32.ofInt_sub]
theorem iv_mul (a b : Int) : Value.int (Int32.ofInt a * Int32.ofInt b) = iv (a * b) := by rw [iv, Int32.ofInt_mul]
theorem i_toInt {a : Int} (h : -2147483648 ≤ a ∧ a ≤ 2147483647) : (Int32.ofInt a).toInt = a := Int32.toInt_ofInt_of_le (by omega) (by omega)
theorem i_eq {a b : Int} (ha : -2147483648 ≤ a ∧ a ≤ 2147483647) (hb : -2147483648 ≤ b ∧ b ≤ 2147483647) : Int32.ofInt a = Int32.ofInt b ↔ a = b := by
  rw [← Int32.toInt_inj, i_toInt ha, i_toInt hb]
theorem i_lt {a b : Int} (ha : -2147483648 ≤ a ∧ a ≤ 2147483647) (hb : -2147483648 ≤ b ∧ b ≤ 2147483647) : Int32.ofInt a < Int32.ofInt b ↔ a < b := by
  rw [Int32.lt_iff_toInt_lt, i_toInt ha, i_toInt hb]
theorem i_le {a b : Int} (ha : -2147483648 ≤ a ∧ a ≤ 2147483647) (hb : -2147483648 ≤ b ∧ b ≤ 2147483647) : Int32.ofInt a ≤ Int32.ofInt b ↔ a ≤ b := by
  rw [Int32.le_iff_toInt_le, i_toInt ha, i_toInt hb]
theorem i_0 : Int32.ofInt 0 = 0 := rfl
theorem i_in {a : Int} {n : Nat} (h : 0 ≤ a ∧ a < (n : Int)) (hn : n ≤ 100000) : vp_in (Int32.ofInt a) n ∧ (Int32.ofInt a).toNatClampNeg = a.toNat := by
  have e : (Int32.ofInt a).toInt = a := i_toInt (by omega)
  refine ⟨vp_in_iff.mpr (by rw [e]; exact h), Int32.toNatClampNeg_ofInt_of_le (by omega) (by omega)⟩
theorem i_and {a : Int} {m : Int32} (k : Nat) (hk : k ≤ 31) (hm : m.toBitVec.toNat = 2 ^ k - 1) : Int32.ofInt a &&& m = Int32.ofInt (a % (2 ^ k : Nat)) := by
  rw [pk_and _ k hm, Int32.toBitVec_ofInt, BitVec.toNat_ofInt]
  show Int32.ofNat _ = _
  rw [← Int32.ofInt_eq_ofNat]
  congr 1
  have h1 : 0 ≤ a % ((2 ^ 32 : Nat) : Int) := Int.emod_nonneg _ (by decide)
  rw [Int.natCast_emod, Int.toNat_of_nonneg h1]
  refine Int.emod_emod_of_dvd a ?_
  exact Int.natCast_dvd_natCast.mpr (Nat.pow_dvd_pow 2 (by omega))
abbrev JE := Program × Launch × Env × Room × State × MethodId × Array Value × List Frame × Method × Code × Nat × (State → Prop) × va_G × (Nat → Prop)
/-- from any heap that holds the picture ws (and any locals that hold lv) the machine at pc with the stack stk comes to its end Q -/
def J (E : JE) (ce sl : Nat) (ws : va_W) (pc : Nat) (lv : List (Nat × Value)) (stk : List Value) : Prop :=
  match E with
  | (p, l, e, R, s, m, args, below, meth, c, nL, Q, D, A) =>
    ∀ (H : Heap) (locs : List Loc) (ls : Array Slot), va_P D vwCl ws H → va_D A ws → va_S A s.heap H locs → lv_has ls nL lv → W p l e R s m args below meth c H locs ce sl Q (F0 m pc ls stk)
/-- what is fixed in a method's run -/
def JF (E : JE) (l0 : Launch) (cc : ByteArray) (own : String) (nL0 : Nat) (rm : Room) (D0 : va_G) (cI cB : ClassId) : Prop :=
  match E with
  | (p, l, _, R, s, m, args, _, meth, c, nL, _, D, A) =>
    p.tables.exec = Jvm.exec ∧ c.code = cc ∧ l = l0 ∧ c.maxLocals = nL0 ∧ nL = nL0 ∧ R = rm ∧ D = D0 ∧ s.vm.findClass own = some m.cls ∧ (∀ w ∈ lw_all, w.before args s = true) ∧ va_K D0 vwCl [(cI, .int), (cB, .boolean)] s ∧ (∀ q : Nat, s.heap.size ≤ q → A q) ∧ meth.locks = false
section
variable {E : JE} {l : Launch} {cc : ByteArray} {own : String} {nL : Nat} {rm : Room} {D : va_G} {cI cB : ClassId} {ce sl : Nat} {ws : va_W} {pc : Nat} {lv : List (Nat × Value)} {rest : List Value}
theorem j_iconst (hF : JF E l cc own nL rm D cI cB) {n : Int} (hdg : decode cc pc = .ok (.iconst n, 1)) (k : J E ce sl ws (pc + 1) lv (iv n :: rest)) : J E ce sl ws pc lv rest := by
  obtain ⟨p, l', e, R, s, m, args, below, meth, c, nL', Q, D', A⟩ := E
  obtain ⟨hx, hb, -⟩ := hF
  intro H locs ls hP hD hS hl
  exact lv_iconst hx hb hdg rfl (k H locs ls hP hD hS hl)
theorem j_bipush (hF : JF E l cc own nL rm D cI cB) {n : Int} (hdg : decode cc pc = .ok (.bipush n, 2)) (hv : (Int8.ofInt n).toInt32 = Int32.ofInt n) (k : J E ce sl ws (pc + 2) lv (iv n :: rest)) : J E ce sl ws pc lv rest := by
  obtain ⟨p, l', e, R, s, m, args, below, meth, c, nL', Q, D', A⟩ := E
  obtain ⟨hx, hb, -⟩ := hF
  intro H locs ls hP hD hS hl
  exact lv_bipush hx hb hdg hv (k H locs ls hP hD hS hl)
theorem j_sipush (hF : JF E l cc own nL rm D cI cB) {n : Int} (hdg : decode cc pc = .ok (.sipush n, 3)) (hv : (Int16.ofInt n).toInt32 = Int32.ofInt n) (k : J E ce sl ws (pc + 3) lv (iv n :: rest)) : J E ce sl ws pc lv rest := by
  obtain ⟨p, l', e, R, s, m, args, below, meth, c, nL', Q, D', A⟩ := E
  obtain ⟨hx, hb, -⟩ := hF
  intro H locs ls hP hD hS hl
  exact lv_sipush hx hb hdg hv (k H locs ls hP hD hS hl)
theorem j_iload_n (hF : JF E l cc own nL rm D cI cB) {kf : Fin 4} {i : Nat} {a : Int} (hdg : decode cc pc = .ok (.iload_n kf, 1)) (hi : (kf : Nat) = i) (pos : Nat) (hp : lv[pos]? = some (i, iv a)) (k : J E ce sl ws (pc + 1) lv (iv a :: rest)) : J E ce sl ws pc lv rest := by
  obtain ⟨p, l', e, R, s, m, args, below, meth, c, nL', Q, D', A⟩ := E
  obtain ⟨hx, hb, -⟩ := hF
  intro H locs ls hP hD hS hl
  exact lv_iload_n hx hb hdg hi (lv_at hl pos hp) (k H locs ls hP hD hS hl)
theorem j_iload (hF : JF E l cc own nL rm D cI cB) {i : Nat} {a : Int} (hdg : decode cc pc = .ok (.iload i, 2)) (pos : Nat) (hp : lv[pos]? = some (i, iv a)) (k : J E ce sl ws (pc + 2) lv (iv a :: rest)) : J E ce sl ws pc lv rest := by
  obtain ⟨p, l', e, R, s, m, args, below, meth, c, nL', Q, D', A⟩ := E
  obtain ⟨hx, hb, -⟩ := hF
  intro H locs ls hP hD hS hl
  exact lv_iload hx hb hdg (lv_at hl pos hp) (k H locs ls hP hD hS hl)
theorem j_aload_n (hF : JF E l cc own nL rm D cI cB) {kf : Fin 4} {i x : Nat} (hdg : decode cc pc = .ok (.aload_n kf, 1)) (hi : (kf : Nat) = i) (pos : Nat) (hp : lv[pos]? = some (i, .ref x)) (k : J E ce sl ws (pc + 1) lv (.ref x :: rest)) : J E ce sl ws pc lv rest := by
  obtain ⟨p, l', e, R, s, m, args, below, meth, c, nL', Q, D', A⟩ := E
  obtain ⟨hx, hb, -⟩ := hF
  intro H locs ls hP hD hS hl
  exact lv_aload_n hx hb hdg hi (lv_at hl pos hp) (k H locs ls hP hD hS hl)
theorem j_istore_n (hF : JF E l cc own nL rm D cI cB) {kf : Fin 4} {i : Nat} {a : Int} (lv' : List (Nat × Value)) (hdg : decode cc pc = .ok (.istore_n kf, 1)) (hi : (kf : Nat) = i) (hn : i < nL) (ks : List Nat) (hp : lv_pick ((i, iv a) :: lv.filter (fun q => !(q.1 == i) && !(q.1 + 1 == i && q.2.category == 2))) ks = lv') (k : J E ce sl ws (pc + 1) lv' rest) : J E ce sl ws pc lv (iv a :: rest) := by
  obtain ⟨p, l', e, R, s, m, args, below, meth, c, nL', Q, D', A⟩ := E
  obtain ⟨hx, hb, -, -, e5, -⟩ := hF
  intro H locs ls hP hD hS hl
  exact lv_istore_n hx hb hdg hi hl (by rw [e5]; exact hn) rfl (fun ls' hl' => k H locs ls' hP hD hS (lv_sub hl' ks hp))
theorem j_istore (hF : JF E l cc own nL rm D cI cB) {i : Nat} {a : Int} (lv' : List (Nat × Value)) (hdg : decode cc pc = .ok (.istore i, 2)) (hn : i < nL) (ks : List Nat) (hp : lv_pick ((i, iv a) :: lv.filter (fun q => !(q.1 == i) && !(q.1 + 1 == i && q.2.category == 2))) ks = lv') (k : J E ce sl ws (pc + 2) lv' rest) : J E ce sl ws pc lv (iv a :: rest) := by
  obtain ⟨p, l', e, R, s, m, args, below, meth, c, nL', Q, D', A⟩ := E
  obtain ⟨hx, hb, -, -, e5, -⟩ := hF
  intro H locs ls hP hD hS hl
  exact lv_istore hx hb hdg hl (by rw [e5]; exact hn) rfl (fun ls' hl' => k H locs ls' hP hD hS (lv_sub hl' ks hp))
theorem j_astore_n (hF : JF E l cc own nL rm D cI cB) {kf : Fin 4} {i x : Nat} (lv' : List (Nat × Value)) (hdg : decode cc pc = .ok (.astore_n kf, 1)) (hi : (kf : Nat) = i) (hn : i < nL) (ks : List Nat) (hp : lv_pick ((i, .ref x) :: lv.filter (fun q => !(q.1 == i) && !(q.1 + 1 == i && q.2.category == 2))) ks = lv') (k : J E ce sl ws (pc + 1) lv' rest) : J E ce sl ws pc lv (.ref x :: rest) := by
  obtain ⟨p, l', e, R, s, m, args, below, meth, c, nL', Q, D', A⟩ := E
  obtain ⟨hx, hb, -, -, e5, -⟩ := hF
  intro H locs ls hP hD hS hl
  exact lv_astore_n hx hb hdg hi hl (by rw [e5]; exact hn) rfl (fun ls' hl' => k H locs ls' hP hD hS (lv_sub hl' ks hp))
theorem j_iinc (hF : JF E l cc own nL rm D cI cB) {i : Nat} {n a : Int} (lv' : List (Nat × Value)) (hdg : decode cc pc = .ok (.iinc i n, 3)) (pos : Nat) (hg : lv[pos]? = some (i, iv a)) (hn : i < nL) (ks : List Nat) (hp : lv_pick ((i, iv (a + n)) :: lv.filter (fun q => !(q.1 == i) && !(q.1 + 1 == i && q.2.category == 2))) ks = lv') (k : J E ce sl ws (pc + 3) lv' rest) : J E ce sl ws pc lv rest := by
  obtain ⟨p, l', e, R, s, m, args, below, meth, c, nL', Q, D', A⟩ := E
  obtain ⟨hx, hb, -, -, e5, -⟩ := hF
  intro H locs ls hP hD hS hl
  exact lv_iinc hx hb hdg hl hg (Int32.ofInt_add a n).symm (by rw [e5]; exact hn) rfl (fun ls' hl' => k H locs ls' hP hD hS (lv_sub hl' ks hp))
theorem j_iadd (hF : JF E l cc own nL rm D cI cB) {a b : Int} (hdg : decode cc pc = .ok (.iadd, 1)) (k : J E ce sl ws (pc + 1) lv (iv (a + b) :: rest)) : J E ce sl ws pc lv (iv b :: iv a :: rest) := by
  obtain ⟨p, l', e, R, s, m, args, below, meth, c, nL', Q, D', A⟩ := E
  obtain ⟨hx, hb, -⟩ := hF
  intro H locs ls hP hD hS hl
  exact lv_iadd hx hb hdg (by rw [iv_add]; exact k H locs ls hP hD hS hl)
theorem j_isub (hF : JF E l cc own nL rm D cI cB) {a b : Int} (hdg : decode cc pc = .ok (.isub, 1)) (k : J E ce sl ws (pc + 1) lv (iv (a - b) :: rest)) : J E ce sl ws pc lv (iv b :: iv a :: rest) := by
  obtain ⟨p, l', e, R, s, m, args, below, meth, c, nL', Q, D', A⟩ := E
  obtain ⟨hx, hb, -⟩ := hF
  intro H locs ls hP hD hS hl
  exact lv_isub hx hb hdg (by rw [iv_sub]; exact k H locs ls hP hD hS hl)
theorem j_imul (hF : JF E l cc own nL rm D cI cB) {a b : Int} (hdg : decode cc pc = .ok (.imul, 1)) (k : J E ce sl ws (pc + 1) lv (iv (a * b) :: rest)) : J E ce sl ws pc lv (iv b :: iv a :: rest) := by
  obtain ⟨p, l', e, R, s, m, args, below, meth, c, nL', Q, D', A⟩ := E
  obtain ⟨hx, hb, -⟩ := hF
  intro H locs ls hP hD hS hl
  exact lv_imul hx hb hdg (by rw [iv_mul]; exact k H locs ls hP hD hS hl)
/-- and with 1 -/
theorem j_and1 (hF : JF E l cc own nL rm D cI cB) {a : Int} (hdg : decode cc pc = .ok (.iand, 1)) (k : J E ce sl ws (pc + 1) lv (iv (a % 2) :: rest)) : J E ce sl ws pc lv (iv 1 :: iv a :: rest) := by
  obtain ⟨p, l', e, R, s, m, args, below, meth, c, nL', Q, D', A⟩ := E
  obtain ⟨hx, hb, -⟩ := hF
  intro H locs ls hP hD hS hl
  refine lv_iand hx hb hdg ?_
  rw [i_and (a := a) (m := Int32.ofInt 1) 1 (by decide) (by decide)]
  exact k H locs ls hP hD hS hl
/-- and with 15 -/
theorem j_and15 (hF : JF E l cc own nL rm D cI cB) {a : Int} (hdg : decode cc pc = .ok (.iand, 1)) (k : J E ce sl ws (pc + 1) lv (iv (a % 16) :: rest)) : J E ce sl ws pc lv (iv 15 :: iv a :: rest) := by
  obtain ⟨p, l', e, R, s, m, args, below, meth, c, nL', Q, D', A⟩ := E
  obtain ⟨hx, hb, -⟩ := hF
  intro H locs ls hP hD hS hl
  refine lv_iand hx hb hdg ?_
  rw [i_and (a := a) (m := Int32.ofInt 15) 4 (by decide) (by decide)]
  exact k H locs ls hP hD hS hl
theorem j_pop (hF : JF E l cc own nL rm D cI cB) {v : Value} (hdg : decode cc pc = .ok (.pop, 1)) (hv : v.category = 1) (k : J E ce sl ws (pc + 1) lv rest) : J E ce sl ws pc lv (v :: rest) := by
  obtain ⟨p, l', e, R, s, m, args, below, meth, c, nL', Q, D', A⟩ := E
  obtain ⟨hx, hb, -⟩ := hF
  intro H locs ls hP hD hS hl
  exact lv_pop hx hb hdg hv (k H locs ls hP hD hS hl)
theorem j_dup (hF : JF E l cc own nL rm D cI cB) {v : Value} (hdg : decode cc pc = .ok (.dup, 1)) (hv : v.category = 1) (k : J E ce sl ws (pc + 1) lv (v :: v :: rest)) : J E ce sl ws pc lv (v :: rest) := by
  obtain ⟨p, l', e, R, s, m, args, below, meth, c, nL', Q, D', A⟩ := E
  obtain ⟨hx, hb, -⟩ := hF
  intro H locs ls hP hD hS hl
  exact lv_dup hx hb hdg hv (k H locs ls hP hD hS hl)
theorem j_goto (hF : JF E l cc own nL rm D cI cB) {off : Int} (tgt : Nat) (hdg : decode cc pc = .ok (.goto off, 3)) (ht : (pc : Int) + off = (tgt : Int)) (k : J E ce sl ws tgt lv rest) : J E ce sl ws pc lv rest := by
  obtain ⟨p, l', e, R, s, m, args, below, meth, c, nL', Q, D', A⟩ := E
  obtain ⟨hx, hb, -⟩ := hF
  intro H locs ls hP hD hS hl
  exact lv_goto hx hb hdg ht (k H locs ls hP hD hS hl)
theorem j_if_eq (hF : JF E l cc own nL rm D cI cB) {a : Int} {off : Int} (tgt : Nat) (hdg : decode cc pc = .ok (.ifCond .eq off, 3)) (ht : (pc : Int) + off = (tgt : Int)) (ha : -2147483648 ≤ a ∧ a ≤ 2147483647) (kt : a = 0 → J E ce sl ws tgt lv rest) (kf : ¬ a = 0 → J E ce sl ws (pc + 3) lv rest) : J E ce sl ws pc lv (iv a :: rest) := by
  obtain ⟨p, l', e, R, s, m, args, below, meth, c, nL', Q, D', A⟩ := E
  obtain ⟨hx, hb, -⟩ := hF
  intro H locs ls hP hD hS hl
  refine lv_if_eq hx hb hdg ht (fun q => kt ?_ H locs ls hP hD hS hl) (fun q => kf ?_ H locs ls hP hD hS hl)
  · exact (i_eq ha (by decide)).mp q
  · exact fun z => q ((i_eq ha (by decide)).mpr z)
theorem j_icmp_eq (hF : JF E l cc own nL rm D cI cB) {a b : Int} {off : Int} (tgt : Nat) (hdg : decode cc pc = .ok (.if_icmp .eq off, 3)) (ht : (pc : Int) + off = (tgt : Int)) (ha : -2147483648 ≤ a ∧ a ≤ 2147483647) (hb2 : -2147483648 ≤ b ∧ b ≤ 2147483647) (kt : a = b → J E ce sl ws tgt lv rest) (kf : ¬ a = b → J E ce sl ws (pc + 3) lv rest) : J E ce sl ws pc lv (iv b :: iv a :: rest) := by
  obtain ⟨p, l', e, R, s, m, args, below, meth, c, nL', Q, D', A⟩ := E
  obtain ⟨hx, hb, -⟩ := hF
  intro H locs ls hP hD hS hl
  refine lv_icmp_eq hx hb hdg ht (fun q => kt ?_ H locs ls hP hD hS hl) (fun q => kf ?_ H locs ls hP hD hS hl)
  · exact (i_eq ha hb2).mp q
  · exact fun z => q ((i_eq ha hb2).mpr z)
theorem j_if_ne (hF : JF E l cc own nL rm D cI cB) {a : Int} {off : Int} (tgt : Nat) (hdg : decode cc pc = .ok (.ifCond .ne off, 3)) (ht : (pc : Int) + off = (tgt : Int)) (ha : -2147483648 ≤ a ∧ a ≤ 2147483647) (kt : a ≠ 0 → J E ce sl ws tgt lv rest) (kf : a = 0 → J E ce sl ws (pc + 3) lv rest) : J E ce sl ws pc lv (iv a :: rest) := by
  obtain ⟨p, l', e, R, s, m, args, below, meth, c, nL', Q, D', A⟩ := E
  obtain ⟨hx, hb, -⟩ := hF
  intro H locs ls hP hD hS hl
  refine lv_if_ne hx hb hdg ht (fun q => kt ?_ H locs ls hP hD hS hl) (fun q => kf ?_ H locs ls hP hD hS hl)
  · exact fun z => q ((i_eq ha (by decide)).mpr z)
  · exact (i_eq ha (by decide)).mp q
theorem j_icmp_ne (hF : JF E l cc own nL rm D cI cB) {a b : Int} {off : Int} (tgt : Nat) (hdg : decode cc pc = .ok (.if_icmp .ne off, 3)) (ht : (pc : Int) + off = (tgt : Int)) (ha : -2147483648 ≤ a ∧ a ≤ 2147483647) (hb2 : -2147483648 ≤ b ∧ b ≤ 2147483647) (kt : a ≠ b → J E ce sl ws tgt lv rest) (kf : a = b → J E ce sl ws (pc + 3) lv rest) : J E ce sl ws pc lv (iv b :: iv a :: rest) := by
  obtain ⟨p, l', e, R, s, m, args, below, meth, c, nL', Q, D', A⟩ := E
  obtain ⟨hx, hb, -⟩ := hF
  intro H locs ls hP hD hS hl
  refine lv_icmp_ne hx hb hdg ht (fun q => kt ?_ H locs ls hP hD hS hl) (fun q => kf ?_ H locs ls hP hD hS hl)
  · exact fun z => q ((i_eq ha hb2).mpr z)
  · exact (i_eq ha hb2).mp q
theorem j_if_lt (hF : JF E l cc own nL rm D cI cB) {a : Int} {off : Int} (tgt : Nat) (hdg : decode cc pc = .ok (.ifCond .lt off, 3)) (ht : (pc : Int) + off = (tgt : Int)) (ha : -2147483648 ≤ a ∧ a ≤ 2147483647) (kt : a < 0 → J E ce sl ws tgt lv rest) (kf : ¬ a < 0 → J E ce sl ws (pc + 3) lv rest) : J E ce sl ws pc lv (iv a :: rest) := by
  obtain ⟨p, l', e, R, s, m, args, below, meth, c, nL', Q, D', A⟩ := E
  obtain ⟨hx, hb, -⟩ := hF
  intro H locs ls hP hD hS hl
  refine lv_if_lt hx hb hdg ht (fun q => kt ?_ H locs ls hP hD hS hl) (fun q => kf ?_ H locs ls hP hD hS hl)
  · exact (i_lt ha (by decide)).mp q
  · exact fun z => q ((i_lt ha (by decide)).mpr z)
theorem j_icmp_lt (hF : JF E l cc own nL rm D cI cB) {a b : Int} {off : Int} (tgt : Nat) (hdg : decode cc pc = .ok (.if_icmp .lt off, 3)) (ht : (pc : Int) + off = (tgt : Int)) (ha : -2147483648 ≤ a ∧ a ≤ 2147483647) (hb2 : -2147483648 ≤ b ∧ b ≤ 2147483647) (kt : a < b → J E ce sl ws tgt lv rest) (kf : ¬ a < b → J E ce sl ws (pc + 3) lv rest) : J E ce sl ws pc lv (iv b :: iv a :: rest) := by
  obtain ⟨p, l', e, R, s, m, args, below, meth, c, nL', Q, D', A⟩ := E
  obtain ⟨hx, hb, -⟩ := hF
  intro H locs ls hP hD hS hl
  refine lv_icmp_lt hx hb hdg ht (fun q => kt ?_ H locs ls hP hD hS hl) (fun q => kf ?_ H locs ls hP hD hS hl)
  · exact (i_lt ha hb2).mp q
  · exact fun z => q ((i_lt ha hb2).mpr z)
theorem j_if_ge (hF : JF E l cc own nL rm D cI cB) {a : Int} {off : Int} (tgt : Nat) (hdg : decode cc pc = .ok (.ifCond .ge off, 3)) (ht : (pc : Int) + off = (tgt : Int)) (ha : -2147483648 ≤ a ∧ a ≤ 2147483647) (kt : 0 ≤ a → J E ce sl ws tgt lv rest) (kf : ¬ 0 ≤ a → J E ce sl ws (pc + 3) lv rest) : J E ce sl ws pc lv (iv a :: rest) := by
  obtain ⟨p, l', e, R, s, m, args, below, meth, c, nL', Q, D', A⟩ := E
  obtain ⟨hx, hb, -⟩ := hF
  intro H locs ls hP hD hS hl
  refine lv_if_ge hx hb hdg ht (fun q => kt ?_ H locs ls hP hD hS hl) (fun q => kf ?_ H locs ls hP hD hS hl)
  · exact (i_le (by decide) ha).mp q
  · exact fun z => q ((i_le (by decide) ha).mpr z)
theorem j_icmp_ge (hF : JF E l cc own nL rm D cI cB) {a b : Int} {off : Int} (tgt : Nat) (hdg : decode cc pc = .ok (.if_icmp .ge off, 3)) (ht : (pc : Int) + off = (tgt : Int)) (ha : -2147483648 ≤ a ∧ a ≤ 2147483647) (hb2 : -2147483648 ≤ b ∧ b ≤ 2147483647) (kt : b ≤ a → J E ce sl ws tgt lv rest) (kf : ¬ b ≤ a → J E ce sl ws (pc + 3) lv rest) : J E ce sl ws pc lv (iv b :: iv a :: rest) := by
  obtain ⟨p, l', e, R, s, m, args, below, meth, c, nL', Q, D', A⟩ := E
  obtain ⟨hx, hb, -⟩ := hF
  intro H locs ls hP hD hS hl
  refine lv_icmp_ge hx hb hdg ht (fun q => kt ?_ H locs ls hP hD hS hl) (fun q => kf ?_ H locs ls hP hD hS hl)
  · exact (i_le hb2 ha).mp q
  · exact fun z => q ((i_le hb2 ha).mpr z)
theorem j_if_gt (hF : JF E l cc own nL rm D cI cB) {a : Int} {off : Int} (tgt : Nat) (hdg : decode cc pc = .ok (.ifCond .gt off, 3)) (ht : (pc : Int) + off = (tgt : Int)) (ha : -2147483648 ≤ a ∧ a ≤ 2147483647) (kt : 0 < a → J E ce sl ws tgt lv rest) (kf : ¬ 0 < a → J E ce sl ws (pc + 3) lv rest) : J E ce sl ws pc lv (iv a :: rest) := by
  obtain ⟨p, l', e, R, s, m, args, below, meth, c, nL', Q, D', A⟩ := E
  obtain ⟨hx, hb, -⟩ := hF
  intro H locs ls hP hD hS hl
  refine lv_if_gt hx hb hdg ht (fun q => kt ?_ H locs ls hP hD hS hl) (fun q => kf ?_ H locs ls hP hD hS hl)
  · exact (i_lt (by decide) ha).mp q
  · exact fun z => q ((i_lt (by decide) ha).mpr z)
theorem j_icmp_gt (hF : JF E l cc own nL rm D cI cB) {a b : Int} {off : Int} (tgt : Nat) (hdg : decode cc pc = .ok (.if_icmp .gt off, 3)) (ht : (pc : Int) + off = (tgt : Int)) (ha : -2147483648 ≤ a ∧ a ≤ 2147483647) (hb2 : -2147483648 ≤ b ∧ b ≤ 2147483647) (kt : b < a → J E ce sl ws tgt lv rest) (kf : ¬ b < a → J E ce sl ws (pc + 3) lv rest) : J E ce sl ws pc lv (iv b :: iv a :: rest) := by
  obtain ⟨p, l', e, R, s, m, args, below, meth, c, nL', Q, D', A⟩ := E
  obtain ⟨hx, hb, -⟩ := hF
  intro H locs ls hP hD hS hl
  refine lv_icmp_gt hx hb hdg ht (fun q => kt ?_ H locs ls hP hD hS hl) (fun q => kf ?_ H locs ls hP hD hS hl)
  · exact (i_lt hb2 ha).mp q
  · exact fun z => q ((i_lt hb2 ha).mpr z)
theorem j_if_le (hF : JF E l cc own nL rm D cI cB) {a : Int} {off : Int} (tgt : Nat) (hdg : decode cc pc = .ok (.ifCond .le off, 3)) (ht : (pc : Int) + off = (tgt : Int)) (ha : -2147483648 ≤ a ∧ a ≤ 2147483647) (kt : a ≤ 0 → J E ce sl ws tgt lv rest) (kf : ¬ a ≤ 0 → J E ce sl ws (pc + 3) lv rest) : J E ce sl ws pc lv (iv a :: rest) := by
  obtain ⟨p, l', e, R, s, m, args, below, meth, c, nL', Q, D', A⟩ := E
  obtain ⟨hx, hb, -⟩ := hF
  intro H locs ls hP hD hS hl
  refine lv_if_le hx hb hdg ht (fun q => kt ?_ H locs ls hP hD hS hl) (fun q => kf ?_ H locs ls hP hD hS hl)
  · exact (i_le ha (by decide)).mp q
  · exact fun z => q ((i_le ha (by decide)).mpr z)
theorem j_icmp_le (hF : JF E l cc own nL rm D cI cB) {a b : Int} {off : Int} (tgt : Nat) (hdg : decode cc pc = .ok (.if_icmp .le off, 3)) (ht : (pc : Int) + off = (tgt : Int)) (ha : -2147483648 ≤ a ∧ a ≤ 2147483647) (hb2 : -2147483648 ≤ b ∧ b ≤ 2147483647) (kt : a ≤ b → J E ce sl ws tgt lv rest) (kf : ¬ a ≤ b → J E ce sl ws (pc + 3) lv rest) : J E ce sl ws pc lv (iv b :: iv a :: rest) := by
  obtain ⟨p, l', e, R, s, m, args, below, meth, c, nL', Q, D', A⟩ := E
  obtain ⟨hx, hb, -⟩ := hF
  intro H locs ls hP hD hS hl
  refine lv_icmp_le hx hb hdg ht (fun q => kt ?_ H locs ls hP hD hS hl) (fun q => kf ?_ H locs ls hP hD hS hl)
  · exact (i_le ha hb2).mp q
  · exact fun z => q ((i_le ha hb2).mpr z)
theorem j_wcmp_eq (hF : JF E l cc own nL rm D cI cB) {a b : Int} {off : Int} (tgt : Nat) (hdg : decode cc pc = .ok (.if_icmp .eq off, 3)) (ht : (pc : Int) + off = (tgt : Int)) (kt : Int32.ofInt a = Int32.ofInt b → J E ce sl ws tgt lv rest) (kf : ¬ Int32.ofInt a = Int32.ofInt b → J E ce sl ws (pc + 3) lv rest) : J E ce sl ws pc lv (iv b :: iv a :: rest) := by
  obtain ⟨p, l', e, R, s, m, args, below, meth, c, nL', Q, D', A⟩ := E
  obtain ⟨hx, hb, -⟩ := hF
  intro H locs ls hP hD hS hl
  exact lv_icmp_eq hx hb hdg ht (fun q => kt q H locs ls hP hD hS hl) (fun q => kf q H locs ls hP hD hS hl)
theorem j_wcmp_ne (hF : JF E l cc own nL rm D cI cB) {a b : Int} {off : Int} (tgt : Nat) (hdg : decode cc pc = .ok (.if_icmp .ne off, 3)) (ht : (pc : Int) + off = (tgt : Int)) (kt : ¬ Int32.ofInt a = Int32.ofInt b → J E ce sl ws tgt lv rest) (kf : Int32.ofInt a = Int32.ofInt b → J E ce sl ws (pc + 3) lv rest) : J E ce sl ws pc lv (iv b :: iv a :: rest) := by
  obtain ⟨p, l', e, R, s, m, args, below, meth, c, nL', Q, D', A⟩ := E
  obtain ⟨hx, hb, -⟩ := hF
  intro H locs ls hP hD hS hl
  exact lv_icmp_ne hx hb hdg ht (fun q => kt q H locs ls hP hD hS hl) (fun q => kf q H locs ls hP hD hS hl)
/-- an int array is read -/
theorem j_ald (q0 kk n : Nat) {st : PS} {b : Nat} (hw : ws[q0]? = some (b, .inl (cI, n, .inl (ca st kk)))) (hn : n ≤ 100000) (hF : JF E l cc own nL rm D cI cB) {a : Int} (hdg : decode cc pc = .ok (.iaload, 1)) (ha : 0 ≤ a ∧ a < (n : Int)) (k : J E ce sl ws (pc + 1) lv (iv (st kk a) :: rest)) : J E ce sl ws pc lv (iv a :: .ref b :: rest) := by
  obtain ⟨p, l', e, R, s, m, args, below, meth, c, nL', Q, D', A⟩ := E
  obtain ⟨hx, hb, rfl, hml, rfl, rfl, rfl, hown, hts, hK, hA, hlk⟩ := hF
  intro H locs ls hP hD hS hl
  obtain ⟨h1, h2⟩ := i_in ha hn
  refine va_iald hx hb hK hP q0 0 hw rfl h1 hdg ?_
  rw [h2, show ca st kk a.toNat = Int32.ofInt (st kk a) by rw [ca, Int.toNat_of_nonneg ha.1]]
  exact k H locs ls hP hD hS hl
/-- a boolean array is read -/
theorem j_zld (q0 kk n : Nat) {st : PS} {b : Nat} (hw : ws[q0]? = some (b, .inl (cB, n, .inl (ca st kk)))) (hn : n ≤ 100000) (hF : JF E l cc own nL rm D cI cB) {a : Int} (hdg : decode cc pc = .ok (.baload, 1)) (ha : 0 ≤ a ∧ a < (n : Int)) (k : J E ce sl ws (pc + 1) lv (iv (st kk a) :: rest)) : J E ce sl ws pc lv (iv a :: .ref b :: rest) := by
  obtain ⟨p, l', e, R, s, m, args, below, meth, c, nL', Q, D', A⟩ := E
  obtain ⟨hx, hb, rfl, hml, rfl, rfl, rfl, hown, hts, hK, hA, hlk⟩ := hF
  intro H locs ls hP hD hS hl
  obtain ⟨h1, h2⟩ := i_in ha hn
  refine va_zald hx hb hK hP q0 1 hw rfl h1 hdg ?_
  rw [h2, show ca st kk a.toNat = Int32.ofInt (st kk a) by rw [ca, Int.toNat_of_nonneg ha.1]]
  exact k H locs ls hP hD hS hl
/-- an int array is written -/
theorem j_ast (q0 kk n : Nat) {st : PS} {b : Nat} {ws' : va_W} (hw : ws[q0]? = some (b, .inl (cI, n, .inl (ca st kk)))) (hn : n ≤ 100000) {a v : Int} (hs : ws.set q0 (b, .inl (cI, n, .inl (ca (sw st kk a v) kk))) = ws') (hF : JF E l cc own nL rm D cI cB) (hdg : decode cc pc = .ok (.iastore, 1)) (ha : 0 ≤ a ∧ a < (n : Int)) (k : J E ce sl ws' (pc + 1) lv rest) : J E ce sl ws pc lv (iv v :: iv a :: .ref b :: rest) := by
  obtain ⟨p, l', e, R, s, m, args, below, meth, c, nL', Q, D', A⟩ := E
  obtain ⟨hx, hb, rfl, hml, rfl, rfl, rfl, hown, hts, hK, hA, hlk⟩ := hF
  intro H locs ls hP hD hS hl
  obtain ⟨h1, h2⟩ := i_in ha hn
  refine va_iast hx hb hK hP hD hS q0 0 hw rfl h1 hdg (fun H1 locs1 hP1 hD1 hS1 => ?_)
  rw [h2, ca_eq ha.1, hs] at hP1 hD1
  exact k H1 locs1 ls hP1 hD1 hS1 hl
theorem nar_z {v : Int} (h : v = 0 ∨ v = 1) : vp_nar .boolean (Int32.ofInt v) = Int32.ofInt v := by
  rcases h with rfl | rfl <;> rfl
/-- a boolean array is written -/
theorem j_zst (q0 kk n : Nat) {st : PS} {b : Nat} {ws' : va_W} (hw : ws[q0]? = some (b, .inl (cB, n, .inl (ca st kk)))) (hn : n ≤ 100000) {a v : Int} (hs : ws.set q0 (b, .inl (cB, n, .inl (ca (sw st kk a v) kk))) = ws') (hF : JF E l cc own nL rm D cI cB) (hdg : decode cc pc = .ok (.bastore, 1)) (ha : 0 ≤ a ∧ a < (n : Int)) (hv : v = 0 ∨ v = 1) (k : J E ce sl ws' (pc + 1) lv rest) : J E ce sl ws pc lv (iv v :: iv a :: .ref b :: rest) := by
  obtain ⟨p, l', e, R, s, m, args, below, meth, c, nL', Q, D', A⟩ := E
  obtain ⟨hx, hb, rfl, hml, rfl, rfl, rfl, hown, hts, hK, hA, hlk⟩ := hF
  intro H locs ls hP hD hS hl
  obtain ⟨h1, h2⟩ := i_in ha hn
  refine va_zast hx hb hK hP hD hS q0 1 hw rfl h1 hdg (fun H1 locs1 hP1 hD1 hS1 => ?_)
  rw [h2, nar_z hv, ca_eq ha.1, hs] at hP1 hD1
  exact k H1 locs1 ls hP1 hD1 hS1 hl
theorem j_get {C : String} {T : u_T} {N ci idx : Nat} {fs : List Value} {b : Nat} {v : Value} (hin : ∀ w ∈ u_ws C T N, w ∈ lw_all) (q0 : Nat) (he : ws[q0]? = some (b, .inr (ci, fs))) (hc : vwCl[ci]? = some (C, T, N)) (fk : Nat) (hk : fk < N) (hlink : Cond.fieldLink own idx C (T fk).2.1 (T fk).2.2.1 ∈ lw_all) (hsm : (T fk).1 = C) (hv : fs[fk]? = some v) (hF : JF E l cc own nL rm D cI cB) (hdg : decode cc pc = .ok (.getfield idx, 3)) (k : J E ce sl ws (pc + 3) lv (v :: rest)) : J E ce sl ws pc lv (.ref b :: rest) := by
  obtain ⟨p, l', e, R, s, m, args, below, meth, c, nL', Q, D', A⟩ := E
  obtain ⟨hx, hb, rfl, hml, rfl, rfl, rfl, hown, hts, hK, hA, hlk⟩ := hF
  intro H locs ls hP hD hS hl
  exact va_get (ci := ci) (C := C) (T := T) (N := N) hx hb hts hin hown hK hP q0 he hc fk hk (hts _ hlink) (fun x h9 => by rw [hsm] at h9; exact h9) hv hdg (k H locs ls hP hD hS hl)
theorem j_put {C : String} {T : u_T} {N ci idx : Nat} {fs : List Value} {b : Nat} {a : Int} {ws' : va_W} (hin : ∀ w ∈ u_ws C T N, w ∈ lw_all) (ty0 : Nat → FieldType) (hty : ∀ k, k < N → parseFieldDescriptor (T k).2.2.1 = some (ty0 k)) (hnm : ∀ a, a < N → ∀ b, b < N → a ≠ b → (T a).2.1 ≠ (T b).2.1) (q0 : Nat) (he : ws[q0]? = some (b, .inr (ci, fs))) (hc : vwCl[ci]? = some (C, T, N)) (fk : Nat) (hk : fk < N) (hlink : Cond.fieldLink own idx C (T fk).2.1 (T fk).2.2.1 ∈ lw_all) (hsm : (T fk).1 = C) (hfin : (T fk).2.2.2 = false) (hd : parseFieldDescriptor (T fk).2.2.1 = some .int) (hl0 : fk < fs.length) (hs : ws.set q0 (b, .inr (ci, fs.set fk (iv a))) = ws') (hF : JF E l cc own nL rm D cI cB) (hdg : decode cc pc = .ok (.putfield idx, 3)) (k : J E ce sl ws' (pc + 3) lv rest) : J E ce sl ws pc lv (iv a :: .ref b :: rest) := by
  obtain ⟨p, l', e, R, s, m, args, below, meth, c, nL', Q, D', A⟩ := E
  obtain ⟨hx, hb, rfl, hml, rfl, rfl, rfl, hown, hts, hK, hA, hlk⟩ := hF
  intro H locs ls hP hD hS hl
  refine va_put (ci := ci) (v := iv a) (ty := .int) (C := C) (T := T) (N := N) hx hb hts hin ty0 hty hnm hown hK hP hD hS q0 he hc fk hk (hts _ hlink) (fun x h9 => by rw [hsm] at h9; exact h9) hfin hd rfl rfl hl0 hdg (fun H1 locs1 hP1 hD1 hS1 => ?_)
  rw [hs] at hP1 hD1
  exact k H1 locs1 ls hP1 hD1 hS1 hl
/-- the same locals, in another order, or fewer -/
theorem j_loc {lv' : List (Nat × Value)} {stk : List Value} (ks : List Nat) (hp : lv_pick lv ks = lv') (k : J E ce sl ws pc lv' stk) : J E ce sl ws pc lv stk := by
  obtain ⟨p, l', e, R, s, m, args, below, meth, c, nL', Q, D', A⟩ := E
  intro H locs ls hP hD hS hl
  exact k H locs ls hP hD hS (lv_sub hl ks hp)
theorem j_w {ws' : va_W} {stk : List Value} (h : ws = ws') (k : J E ce sl ws' pc lv stk) : J E ce sl ws pc lv stk := h ▸ k
theorem j_top {a b : Int} (h : a = b) (k : J E ce sl ws pc lv (iv b :: rest)) : J E ce sl ws pc lv (iv a :: rest) := h ▸ k
theorem j_widen {ce' sl' : Nat} {stk : List Value} (h1 : ce ≤ ce') (h2 : sl ≤ sl') (k : J E ce' sl' ws pc lv stk) : J E ce sl ws pc lv stk := by
  obtain ⟨p, l', e, R, s, m, args, below, meth, c, nL', Q, D', A⟩ := E
  intro H locs ls hP hD hS hl
  exact W.widen h1 h2 (k H locs ls hP hD hS hl)
end
/-! CONTRACTS in this layer -/
def CP (D : va_G) (cI cB : ClassId) (sz : Nat) (w : va_W) (U : State) : Prop := U.heap.size = sz ∧ va_P D vwCl w U.heap ∧ va_K D vwCl [(cI, .int), (cB, .boolean)] U ∧ va_D (fun _ => True) w
def CB (D : va_G) (cI cB : ClassId) (A : Nat → Prop) (wf : PS → va_W) (u : PS) (t : State) : Prop := va_P D vwCl (wf u) t.heap ∧ va_K D vwCl [(cI, .int), (cB, .boolean)] t ∧ va_D A (wf u)
/-- the contract of a method with a number as its answer: from the picture wf st, called with As (the object first), it answers a and leaves the picture wf u, with post a u -/
def MI (l : Launch) (D : va_G) (cI cB : ClassId) (wf : PS → va_W) (y : MethodName) (cy : ByteArray) (Ly : Nat) (ret : Option FieldType) (fr lo : Nat) (As : List Value) (st : PS) (post : Int → PS → Prop) : Prop :=
  ∀ sz : Nat, Met l y (ws_ y cy Ly ret) (rmo fr lo) (va_Pc As (CP D cI cB sz (wf st))) (va_Qi (fun r u => ∃ a : Int, r = Int32.ofInt a ∧ post a u) (CB D cI cB (va_A (wf st) sz) wf) (va_A (wf st) sz)) 0 0 (va_A (wf st) sz)
/-- the contract of a method without an answer -/
def MV (l : Launch) (D : va_G) (cI cB : ClassId) (wf : PS → va_W) (y : MethodName) (cy : ByteArray) (Ly : Nat) (fr lo : Nat) (As : List Value) (st : PS) (post : PS → Prop) : Prop :=
  ∀ sz : Nat, Met l y (ws_ y cy Ly none) (rmo fr lo) (va_Pc As (CP D cI cB sz (wf st))) (va_Qv post (CB D cI cB (va_A (wf st) sz) wf) (va_A (wf st) sz)) 0 0 (va_A (wf st) sz)
section
variable {l : Launch} {D : va_G} {cI cB : ClassId} {wf : PS → va_W} {y : MethodName} {cy : ByteArray} {Ly fr lo : Nat} {As : List Value} {st : PS}
theorem MI_of {post : Int → PS → Prop} (hy : plainName y.cls = true) (hAs : (lg_sl As).length ≤ Ly) (h : ∀ E : JE, JF E l cy y.cls Ly (rmo fr lo) D cI cB → (∀ (a : Int) (u : PS) (pc : Nat) (lv : List (Nat × Value)), decode cy pc = .ok (.ireturn, 1) → post a u → J E 0 0 (wf u) pc lv [iv a]) → J E 0 0 (wf st) 0 (lv_args 0 As) []) : MI l D cI cB wf y cy Ly (some .int) fr lo As st post := by
  intro sz
  refine Met.ofW (cc := cy) (maxL := Ly) (ret := some .int) hy rfl ?_
  intro p e s m args below meth c s₁ B hml hv
  obtain ⟨rfl, hsz, hP, hK, hD0⟩ := hv
  have hts := atoms_spec (ws := ws_ y cy Ly (some .int)) B.pre
  have hts : ∀ w ∈ lw_all, w.before _ s = true := fun w h => hts w (List.mem_cons_of_mem _ h)
  have hown : s.vm.findClass y.cls = some m.cls := findClass_of_methodNamed B.named
  subst hsz
  have hD := hD0.self (sz := s.heap.size)
  have hS : va_S (va_A (wf st) s.heap.size) s.heap s.heap [] := va_S.rf
  have hl := lv_entry As (n := Ly) hAs
  rw [lg_entry_eq]
  generalize (lg_sl As ++ List.replicate (Ly - (lg_sl As).length) Slot.unset).toArray = ls at hl ⊢
  refine h (p, l, e, rmo fr lo, s, m, As.toArray, below, meth, c, Ly, MQ below _ As.toArray s 0 0 _, D, va_A (wf st) s.heap.size) ⟨B.exec, B.bytes, rfl, hml, rfl, rfl, rfl, hown, hts, hK, fun q h => Or.inr h, B.notSynchronized⟩ ?_ s.heap [] ls hP hD hS hl
  intro a u pc lv hdg hpost H locs ls2 hP2 hD2 hS2 hl2
  exact W.iret (v := Int32.ofInt a) B.exec B.bytes B.returns (fun t ht hW => ⟨⟨Int32.ofInt a, u, rfl, ⟨a, rfl, hpost⟩, by rw [ht]; exact hP2, va_K.moved hW.alike hK, hD2⟩, hS2.F ht⟩) hS2.2.2 hdg B.notSynchronized
theorem nar_b {v : Int} (h : v = 0 ∨ v = 1) : narrow .boolean (.int (Int32.ofInt v)) = .int (Int32.ofInt v) := by
  rcases h with rfl | rfl <;> rfl
theorem MI_ofZ {post : Int → PS → Prop} (hy : plainName y.cls = true) (hAs : (lg_sl As).length ≤ Ly) (h : ∀ E : JE, JF E l cy y.cls Ly (rmo fr lo) D cI cB → (∀ (a : Int) (u : PS) (pc : Nat) (lv : List (Nat × Value)), decode cy pc = .ok (.ireturn, 1) → (a = 0 ∨ a = 1) → post a u → J E 0 0 (wf u) pc lv [iv a]) → J E 0 0 (wf st) 0 (lv_args 0 As) []) : MI l D cI cB wf y cy Ly (some .boolean) fr lo As st post := by
  intro sz
  refine Met.ofW (cc := cy) (maxL := Ly) (ret := some .boolean) hy rfl ?_
  intro p e s m args below meth c s₁ B hml hv
  obtain ⟨rfl, hsz, hP, hK, hD0⟩ := hv
  have hts := atoms_spec (ws := ws_ y cy Ly (some .boolean)) B.pre
  have hts : ∀ w ∈ lw_all, w.before _ s = true := fun w h => hts w (List.mem_cons_of_mem _ h)
  have hown : s.vm.findClass y.cls = some m.cls := findClass_of_methodNamed B.named
  subst hsz
  have hD := hD0.self (sz := s.heap.size)
  have hS : va_S (va_A (wf st) s.heap.size) s.heap s.heap [] := va_S.rf
  have hl := lv_entry As (n := Ly) hAs
  rw [lg_entry_eq]
  generalize (lg_sl As ++ List.replicate (Ly - (lg_sl As).length) Slot.unset).toArray = ls at hl ⊢
  refine h (p, l, e, rmo fr lo, s, m, As.toArray, below, meth, c, Ly, MQ below _ As.toArray s 0 0 _, D, va_A (wf st) s.heap.size) ⟨B.exec, B.bytes, rfl, hml, rfl, rfl, rfl, hown, hts, hK, fun q h => Or.inr h, B.notSynchronized⟩ ?_ s.heap [] ls hP hD hS hl
  intro a u pc lv hdg hz hpost H locs ls2 hP2 hD2 hS2 hl2
  exact W.zret (v := Int32.ofInt a) B.exec B.bytes B.returns (nar_b hz) (fun t ht hW => ⟨⟨Int32.ofInt a, u, rfl, ⟨a, rfl, hpost⟩, by rw [ht]; exact hP2, va_K.moved hW.alike hK, hD2⟩, hS2.F ht⟩) hS2.2.2 hdg B.notSynchronized
theorem MV_of {post : PS → Prop} (hy : plainName y.cls = true) (hAs : (lg_sl As).length ≤ Ly) (h : ∀ E : JE, JF E l cy y.cls Ly (rmo fr lo) D cI cB → (∀ (u : PS) (pc : Nat) (lv : List (Nat × Value)), decode cy pc = .ok (.return_, 1) → post u → J E 0 0 (wf u) pc lv []) → J E 0 0 (wf st) 0 (lv_args 0 As) []) : MV l D cI cB wf y cy Ly fr lo As st post := by
  intro sz
  refine Met.ofW (cc := cy) (maxL := Ly) (ret := none) hy rfl ?_
  intro p e s m args below meth c s₁ B hml hv
  obtain ⟨rfl, hsz, hP, hK, hD0⟩ := hv
  have hts := atoms_spec (ws := ws_ y cy Ly none) B.pre
  have hts : ∀ w ∈ lw_all, w.before _ s = true := fun w h => hts w (List.mem_cons_of_mem _ h)
  have hown : s.vm.findClass y.cls = some m.cls := findClass_of_methodNamed B.named
  subst hsz
  have hD := hD0.self (sz := s.heap.size)
  have hS : va_S (va_A (wf st) s.heap.size) s.heap s.heap [] := va_S.rf
  have hl := lv_entry As (n := Ly) hAs
  rw [lg_entry_eq]
  generalize (lg_sl As ++ List.replicate (Ly - (lg_sl As).length) Slot.unset).toArray = ls at hl ⊢
  refine h (p, l, e, rmo fr lo, s, m, As.toArray, below, meth, c, Ly, MQ below _ As.toArray s 0 0 _, D, va_A (wf st) s.heap.size) ⟨B.exec, B.bytes, rfl, hml, rfl, rfl, rfl, hown, hts, hK, fun q h => Or.inr h, B.notSynchronized⟩ ?_ s.heap [] ls hP hD hS hl
  intro u pc lv hdg hpost H locs ls2 hP2 hD2 hS2 hl2
  exact W.vret B.exec B.bytes B.returns (fun t ht hW => ⟨⟨u, rfl, hpost, by rw [ht]; exact hP2, va_K.moved hW.alike hK, hD2⟩, hS2.F ht⟩) hS2.2.2 hdg B.notSynchronized
end
section
variable {E : JE} {l : Launch} {cc : ByteArray} {own : String} {nL : Nat} {rm : Room} {D : va_G} {cI cB : ClassId} {ce sl : Nat} {pc : Nat} {lv : List (Nat × Value)} {wf : PS → va_W} {y : MethodName} {cy : ByteArray} {Ly fr lo : Nat} {ret : Option FieldType} {As : List Value} {b : Nat} {st : PS} {C : String} {idx n : Nat} {stk : List Value}
/-- a call through an object whose cells are all of the picture: the answer is a number -/
theorem j_calli {post : Int → PS → Prop} (hF : JF E l cc own nL rm D cI cB) (hM : MI l D cI cB wf y cy Ly ret fr lo (.ref b :: As) st post) (hG : GoodIn lw_all (wsV own idx C y (ws_ y cy Ly ret)))
    (hd : y.cls = C ∧ y.cls ≠ "java/lang/invoke/MethodHandle" ∧ y.cls ≠ "java/lang/invoke/VarHandle" ∧ (parseMethodDescriptor y.desc).map (fun d => d.parameters.length) = some n) (hR : fr + 1 ≤ rm.frames ∧ 8 + (Ly + 11) + lo ≤ rm.locals) (hf : ce ≤ rm.cells ∧ sl ≤ rm.slots) (hn : As.length = n)
    (ci : Nat) {fs : List Value} {q : vw_C} (hw : (wf st)[0]? = some (b, .inr (ci, fs))) (hc : vwCl[ci]? = some q) (hq : q.1 = C) (rest : List Value) (hstk : stk = As.reverse ++ .ref b :: rest) (hrest : (rest.map fun v => v.category).sum ≤ 8) (hdg : decode cc pc = .ok (.invokevirtual idx, 3))
    (k : ∀ (a : Int) (u : PS), post a u → J E ce sl (wf u) (pc + 3) lv (iv a :: rest)) : J E ce sl (wf st) pc lv stk := by
  obtain ⟨p, l', e, R, s, m, args, below, meth, c, nL', Q, D', A⟩ := E
  obtain ⟨hx, hb, rfl, hml, rfl, rfl, rfl, hown, hts, hK, hA, hlk⟩ := hF
  intro H locs ls hP hD hS hl
  have hFc : ∀ q : Nat, va_A (wf st) H.size q → A q := by
    intro q h
    rcases h with ⟨k, e, h⟩ | h
    · exact hD.2 k _ h
    · exact hA q (Nat.le_trans hS.1 h)
  subst hq
  refine va_calli (va_runV (As := As) (rest := rest) ⟨hx, hb, hml, hown, hts⟩ (hM H.size) (cwV n hts hG rfl rfl rfl hd hR) ⟨fun a U g mk q => by obtain ⟨q0, q1, qP, qK, qD⟩ := q; exact ⟨q0, q1, qP, va_K.moved (u := U) (U := U.calling g mk a) (Vm.Alike.refl U.vm) qK, qD⟩, va_recv hK hP (ci := ci) (q0 := 0) hc hw, fun U hU hW => ⟨rfl, by rw [hU], by rw [hU]; exact hP, va_K.moved hW.alike hK, hD.weaken (fun _ _ _ _ => trivial)⟩⟩ rfl hn hl.1 hstk (lv_room hrest) hdg hf) hS (fun q _ h => hFc q h) hFc (fun r u t H1 locs1 ht hvm hw1 hB hz1 hk1 hS1 => ?_)
  obtain ⟨a, rfl, hpost⟩ := hw1
  obtain ⟨hP1, hK1, hD1⟩ := hB
  rw [ht] at hP1
  exact k a u hpost H1 locs1 ls hP1 (hD1.weaken (fun k q hq h => hFc q.1 h)) hS1 hl
/-- the same without an answer -/
theorem j_callv {post : PS → Prop} (hF : JF E l cc own nL rm D cI cB) (hM : MV l D cI cB wf y cy Ly fr lo (.ref b :: As) st post) (hG : GoodIn lw_all (wsV own idx C y (ws_ y cy Ly none)))
    (hd : y.cls = C ∧ y.cls ≠ "java/lang/invoke/MethodHandle" ∧ y.cls ≠ "java/lang/invoke/VarHandle" ∧ (parseMethodDescriptor y.desc).map (fun d => d.parameters.length) = some n) (hR : fr + 1 ≤ rm.frames ∧ 8 + (Ly + 11) + lo ≤ rm.locals) (hf : ce ≤ rm.cells ∧ sl ≤ rm.slots) (hn : As.length = n)
    (ci : Nat) {fs : List Value} {q : vw_C} (hw : (wf st)[0]? = some (b, .inr (ci, fs))) (hc : vwCl[ci]? = some q) (hq : q.1 = C) (rest : List Value) (hstk : stk = As.reverse ++ .ref b :: rest) (hrest : (rest.map fun v => v.category).sum ≤ 8) (hdg : decode cc pc = .ok (.invokevirtual idx, 3))
    (k : ∀ (u : PS), post u → J E ce sl (wf u) (pc + 3) lv rest) : J E ce sl (wf st) pc lv stk := by
  obtain ⟨p, l', e, R, s, m, args, below, meth, c, nL', Q, D', A⟩ := E
  obtain ⟨hx, hb, rfl, hml, rfl, rfl, rfl, hown, hts, hK, hA, hlk⟩ := hF
  intro H locs ls hP hD hS hl
  have hFc : ∀ q : Nat, va_A (wf st) H.size q → A q := by
    intro q h
    rcases h with ⟨k, e, h⟩ | h
    · exact hD.2 k _ h
    · exact hA q (Nat.le_trans hS.1 h)
  subst hq
  refine va_callv (va_runV (As := As) (rest := rest) ⟨hx, hb, hml, hown, hts⟩ (hM H.size) (cwV n hts hG rfl rfl rfl hd hR) ⟨fun a U g mk q => by obtain ⟨q0, q1, qP, qK, qD⟩ := q; exact ⟨q0, q1, qP, va_K.moved (u := U) (U := U.calling g mk a) (Vm.Alike.refl U.vm) qK, qD⟩, va_recv hK hP (ci := ci) (q0 := 0) hc hw, fun U hU hW => ⟨rfl, by rw [hU], by rw [hU]; exact hP, va_K.moved hW.alike hK, hD.weaken (fun _ _ _ _ => trivial)⟩⟩ rfl hn hl.1 hstk (lv_room hrest) hdg hf) hS (fun q _ h => hFc q h) hFc (fun u t H1 locs1 ht hvm hw1 hB hz1 hk1 hS1 => ?_)
  obtain ⟨hP1, hK1, hD1⟩ := hB
  rw [ht] at hP1
  exact k u hw1 H1 locs1 ls hP1 (hD1.weaken (fun k q hq h => hFc q.1 h)) hS1 hl
end
end
section
/-! the worlds of the two classes, and the rows over them (written by gen/mkj.py) -/
set_option maxRecDepth 100000
/-- the cells of an object of class 0: arrays 0 word, 1 nodeFile, 2 nodeSize, 3 nodeWord, 4 markOf, 5 chainNext, 6 packBegin, 7 packEnd, 8 packNode, 9 packChain, 10 nodeNow, 11 nodeLasting, 12 young, 13 needed; numbers (14, j): 0 chain, 1 chained, 2 number, 3 segment -/
def xw (h0 : Nat) (ad : Nat → Nat) (cI cB : ClassId) (st : PS) : va_W := [(h0, .inr (0, [.ref (ad 0), .ref (ad 1), .ref (ad 2), .ref (ad 3), .ref (ad 4), .ref (ad 5), .ref (ad 6), .ref (ad 7), .ref (ad 8), .ref (ad 9), .ref (ad 10), .ref (ad 11), .ref (ad 12), iv (st 14 0), iv (st 14 1), iv (st 14 2), iv (st 14 3), .ref (ad 13)])), (ad 0, .inl (cI, 128, .inl (ca st 0))), (ad 1, .inl (cI, 128, .inl (ca st 1))), (ad 2, .inl (cI, 128, .inl (ca st 2))), (ad 3, .inl (cI, 512, .inl (ca st 3))), (ad 4, .inl (cI, 128, .inl (ca st 4))), (ad 5, .inl (cI, 128, .inl (ca st 5))), (ad 6, .inl (cI, 2, .inl (ca st 6))), (ad 7, .inl (cI, 2, .inl (ca st 7))), (ad 8, .inl (cI, 12, .inl (ca st 8))), (ad 9, .inl (cI, 2, .inl (ca st 9))), (ad 10, .inl (cI, 6, .inl (ca st 10))), (ad 11, .inl (cI, 6, .inl (ca st 11))), (ad 12, .inl (cB, 6, .inl (ca st 12))), (ad 13, .inl (cB, 128, .inl (ca st 13)))]
section
variable {E : JE} {l : Launch} {cc : ByteArray} {own : String} {nL : Nat} {rm : Room} {D : va_G} {cI cB : ClassId} {ce sl : Nat} {pc : Nat} {lv : List (Nat × Value)} {rest : List Value} {h0 : Nat} {ad : Nat → Nat} {st : PS}
/-- getfield word -/
theorem xg0 (hF : JF E l cc RX0 nL rm D cI cB) (hdg : decode cc pc = .ok (.getfield 7, 3)) (k : J E ce sl (xw h0 ad cI cB st) (pc + 3) lv (.ref (ad 0) :: rest)) : J E ce sl (xw h0 ad cI cB st) pc lv (.ref h0 :: rest) :=
  j_get (C := RX0) (T := TX0) (N := 18) (ci := 0) in_X0 0 rfl rfl 0 (by decide) q51 rfl rfl hF hdg k
theorem xl0 (hF : JF E l cc own nL rm D cI cB) {a : Int} (hdg : decode cc pc = .ok (.iaload, 1)) (ha : 0 ≤ a ∧ a < 128) (k : J E ce sl (xw h0 ad cI cB st) (pc + 1) lv (iv (st 0 a) :: rest)) : J E ce sl (xw h0 ad cI cB st) pc lv (iv a :: .ref (ad 0) :: rest) :=
  j_ald 1 0 128 rfl (by decide) hF hdg ha k
theorem xset0 (a v : Int) : (xw h0 ad cI cB st).set 1 (ad 0, .inl (cI, 128, .inl (ca (sw st 0 a v) 0))) = xw h0 ad cI cB (sw st 0 a v) := by simp [xw, ca_ne, sw_ne]
/-- word[a] = v -/
theorem xs0 (hF : JF E l cc own nL rm D cI cB) {a v : Int} (hdg : decode cc pc = .ok (.iastore, 1)) (ha : 0 ≤ a ∧ a < 128) (k : J E ce sl (xw h0 ad cI cB (sw st 0 a v)) (pc + 1) lv rest) : J E ce sl (xw h0 ad cI cB st) pc lv (iv v :: iv a :: .ref (ad 0) :: rest) :=
  j_ast 1 0 128 rfl (by decide) (xset0 a v) hF hdg ha k
/-- getfield nodeFile -/
theorem xg1 (hF : JF E l cc RX0 nL rm D cI cB) (hdg : decode cc pc = .ok (.getfield 13, 3)) (k : J E ce sl (xw h0 ad cI cB st) (pc + 3) lv (.ref (ad 1) :: rest)) : J E ce sl (xw h0 ad cI cB st) pc lv (.ref h0 :: rest) :=
  j_get (C := RX0) (T := TX0) (N := 18) (ci := 0) in_X0 0 rfl rfl 1 (by decide) q52 rfl rfl hF hdg k
theorem xl1 (hF : JF E l cc own nL rm D cI cB) {a : Int} (hdg : decode cc pc = .ok (.iaload, 1)) (ha : 0 ≤ a ∧ a < 128) (k : J E ce sl (xw h0 ad cI cB st) (pc + 1) lv (iv (st 1 a) :: rest)) : J E ce sl (xw h0 ad cI cB st) pc lv (iv a :: .ref (ad 1) :: rest) :=
  j_ald 2 1 128 rfl (by decide) hF hdg ha k
theorem xset1 (a v : Int) : (xw h0 ad cI cB st).set 2 (ad 1, .inl (cI, 128, .inl (ca (sw st 1 a v) 1))) = xw h0 ad cI cB (sw st 1 a v) := by simp [xw, ca_ne, sw_ne]
/-- nodeFile[a] = v -/
theorem xs1 (hF : JF E l cc own nL rm D cI cB) {a v : Int} (hdg : decode cc pc = .ok (.iastore, 1)) (ha : 0 ≤ a ∧ a < 128) (k : J E ce sl (xw h0 ad cI cB (sw st 1 a v)) (pc + 1) lv rest) : J E ce sl (xw h0 ad cI cB st) pc lv (iv v :: iv a :: .ref (ad 1) :: rest) :=
  j_ast 2 1 128 rfl (by decide) (xset1 a v) hF hdg ha k
/-- getfield nodeSize -/
theorem xg2 (hF : JF E l cc RX0 nL rm D cI cB) (hdg : decode cc pc = .ok (.getfield 16, 3)) (k : J E ce sl (xw h0 ad cI cB st) (pc + 3) lv (.ref (ad 2) :: rest)) : J E ce sl (xw h0 ad cI cB st) pc lv (.ref h0 :: rest) :=
  j_get (C := RX0) (T := TX0) (N := 18) (ci := 0) in_X0 0 rfl rfl 2 (by decide) q53 rfl rfl hF hdg k
theorem xl2 (hF : JF E l cc own nL rm D cI cB) {a : Int} (hdg : decode cc pc = .ok (.iaload, 1)) (ha : 0 ≤ a ∧ a < 128) (k : J E ce sl (xw h0 ad cI cB st) (pc + 1) lv (iv (st 2 a) :: rest)) : J E ce sl (xw h0 ad cI cB st) pc lv (iv a :: .ref (ad 2) :: rest) :=
  j_ald 3 2 128 rfl (by decide) hF hdg ha k
theorem xset2 (a v : Int) : (xw h0 ad cI cB st).set 3 (ad 2, .inl (cI, 128, .inl (ca (sw st 2 a v) 2))) = xw h0 ad cI cB (sw st 2 a v) := by simp [xw, ca_ne, sw_ne]
/-- nodeSize[a] = v -/
theorem xs2 (hF : JF E l cc own nL rm D cI cB) {a v : Int} (hdg : decode cc pc = .ok (.iastore, 1)) (ha : 0 ≤ a ∧ a < 128) (k : J E ce sl (xw h0 ad cI cB (sw st 2 a v)) (pc + 1) lv rest) : J E ce sl (xw h0 ad cI cB st) pc lv (iv v :: iv a :: .ref (ad 2) :: rest) :=
  j_ast 3 2 128 rfl (by decide) (xset2 a v) hF hdg ha k
/-- getfield nodeWord -/
theorem xg3 (hF : JF E l cc RX0 nL rm D cI cB) (hdg : decode cc pc = .ok (.getfield 19, 3)) (k : J E ce sl (xw h0 ad cI cB st) (pc + 3) lv (.ref (ad 3) :: rest)) : J E ce sl (xw h0 ad cI cB st) pc lv (.ref h0 :: rest) :=
  j_get (C := RX0) (T := TX0) (N := 18) (ci := 0) in_X0 0 rfl rfl 3 (by decide) q54 rfl rfl hF hdg k
theorem xl3 (hF : JF E l cc own nL rm D cI cB) {a : Int} (hdg : decode cc pc = .ok (.iaload, 1)) (ha : 0 ≤ a ∧ a < 512) (k : J E ce sl (xw h0 ad cI cB st) (pc + 1) lv (iv (st 3 a) :: rest)) : J E ce sl (xw h0 ad cI cB st) pc lv (iv a :: .ref (ad 3) :: rest) :=
  j_ald 4 3 512 rfl (by decide) hF hdg ha k
theorem xset3 (a v : Int) : (xw h0 ad cI cB st).set 4 (ad 3, .inl (cI, 512, .inl (ca (sw st 3 a v) 3))) = xw h0 ad cI cB (sw st 3 a v) := by simp [xw, ca_ne, sw_ne]
/-- nodeWord[a] = v -/
theorem xs3 (hF : JF E l cc own nL rm D cI cB) {a v : Int} (hdg : decode cc pc = .ok (.iastore, 1)) (ha : 0 ≤ a ∧ a < 512) (k : J E ce sl (xw h0 ad cI cB (sw st 3 a v)) (pc + 1) lv rest) : J E ce sl (xw h0 ad cI cB st) pc lv (iv v :: iv a :: .ref (ad 3) :: rest) :=
  j_ast 4 3 512 rfl (by decide) (xset3 a v) hF hdg ha k
/-- getfield markOf -/
theorem xg4 (hF : JF E l cc RX0 nL rm D cI cB) (hdg : decode cc pc = .ok (.getfield 22, 3)) (k : J E ce sl (xw h0 ad cI cB st) (pc + 3) lv (.ref (ad 4) :: rest)) : J E ce sl (xw h0 ad cI cB st) pc lv (.ref h0 :: rest) :=
  j_get (C := RX0) (T := TX0) (N := 18) (ci := 0) in_X0 0 rfl rfl 4 (by decide) q55 rfl rfl hF hdg k
theorem xl4 (hF : JF E l cc own nL rm D cI cB) {a : Int} (hdg : decode cc pc = .ok (.iaload, 1)) (ha : 0 ≤ a ∧ a < 128) (k : J E ce sl (xw h0 ad cI cB st) (pc + 1) lv (iv (st 4 a) :: rest)) : J E ce sl (xw h0 ad cI cB st) pc lv (iv a :: .ref (ad 4) :: rest) :=
  j_ald 5 4 128 rfl (by decide) hF hdg ha k
theorem xset4 (a v : Int) : (xw h0 ad cI cB st).set 5 (ad 4, .inl (cI, 128, .inl (ca (sw st 4 a v) 4))) = xw h0 ad cI cB (sw st 4 a v) := by simp [xw, ca_ne, sw_ne]
/-- markOf[a] = v -/
theorem xs4 (hF : JF E l cc own nL rm D cI cB) {a v : Int} (hdg : decode cc pc = .ok (.iastore, 1)) (ha : 0 ≤ a ∧ a < 128) (k : J E ce sl (xw h0 ad cI cB (sw st 4 a v)) (pc + 1) lv rest) : J E ce sl (xw h0 ad cI cB st) pc lv (iv v :: iv a :: .ref (ad 4) :: rest) :=
  j_ast 5 4 128 rfl (by decide) (xset4 a v) hF hdg ha k
/-- getfield chainNext -/
theorem xg5 (hF : JF E l cc RX0 nL rm D cI cB) (hdg : decode cc pc = .ok (.getfield 25, 3)) (k : J E ce sl (xw h0 ad cI cB st) (pc + 3) lv (.ref (ad 5) :: rest)) : J E ce sl (xw h0 ad cI cB st) pc lv (.ref h0 :: rest) :=
  j_get (C := RX0) (T := TX0) (N := 18) (ci := 0) in_X0 0 rfl rfl 5 (by decide) q56 rfl rfl hF hdg k
theorem xl5 (hF : JF E l cc own nL rm D cI cB) {a : Int} (hdg : decode cc pc = .ok (.iaload, 1)) (ha : 0 ≤ a ∧ a < 128) (k : J E ce sl (xw h0 ad cI cB st) (pc + 1) lv (iv (st 5 a) :: rest)) : J E ce sl (xw h0 ad cI cB st) pc lv (iv a :: .ref (ad 5) :: rest) :=
  j_ald 6 5 128 rfl (by decide) hF hdg ha k
theorem xset5 (a v : Int) : (xw h0 ad cI cB st).set 6 (ad 5, .inl (cI, 128, .inl (ca (sw st 5 a v) 5))) = xw h0 ad cI cB (sw st 5 a v) := by simp [xw, ca_ne, sw_ne]
/-- chainNext[a] = v -/
theorem xs5 (hF : JF E l cc own nL rm D cI cB) {a v : Int} (hdg : decode cc pc = .ok (.iastore, 1)) (ha : 0 ≤ a ∧ a < 128) (k : J E ce sl (xw h0 ad cI cB (sw st 5 a v)) (pc + 1) lv rest) : J E ce sl (xw h0 ad cI cB st) pc lv (iv v :: iv a :: .ref (ad 5) :: rest) :=
  j_ast 6 5 128 rfl (by decide) (xset5 a v) hF hdg ha k
/-- getfield packBegin -/
theorem xg6 (hF : JF E l cc RX0 nL rm D cI cB) (hdg : decode cc pc = .ok (.getfield 28, 3)) (k : J E ce sl (xw h0 ad cI cB st) (pc + 3) lv (.ref (ad 6) :: rest)) : J E ce sl (xw h0 ad cI cB st) pc lv (.ref h0 :: rest) :=
  j_get (C := RX0) (T := TX0) (N := 18) (ci := 0) in_X0 0 rfl rfl 6 (by decide) q57 rfl rfl hF hdg k
theorem xl6 (hF : JF E l cc own nL rm D cI cB) {a : Int} (hdg : decode cc pc = .ok (.iaload, 1)) (ha : 0 ≤ a ∧ a < 2) (k : J E ce sl (xw h0 ad cI cB st) (pc + 1) lv (iv (st 6 a) :: rest)) : J E ce sl (xw h0 ad cI cB st) pc lv (iv a :: .ref (ad 6) :: rest) :=
  j_ald 7 6 2 rfl (by decide) hF hdg ha k
theorem xset6 (a v : Int) : (xw h0 ad cI cB st).set 7 (ad 6, .inl (cI, 2, .inl (ca (sw st 6 a v) 6))) = xw h0 ad cI cB (sw st 6 a v) := by simp [xw, ca_ne, sw_ne]
/-- packBegin[a] = v -/
theorem xs6 (hF : JF E l cc own nL rm D cI cB) {a v : Int} (hdg : decode cc pc = .ok (.iastore, 1)) (ha : 0 ≤ a ∧ a < 2) (k : J E ce sl (xw h0 ad cI cB (sw st 6 a v)) (pc + 1) lv rest) : J E ce sl (xw h0 ad cI cB st) pc lv (iv v :: iv a :: .ref (ad 6) :: rest) :=
  j_ast 7 6 2 rfl (by decide) (xset6 a v) hF hdg ha k
/-- getfield packEnd -/
theorem xg7 (hF : JF E l cc RX0 nL rm D cI cB) (hdg : decode cc pc = .ok (.getfield 31, 3)) (k : J E ce sl (xw h0 ad cI cB st) (pc + 3) lv (.ref (ad 7) :: rest)) : J E ce sl (xw h0 ad cI cB st) pc lv (.ref h0 :: rest) :=
  j_get (C := RX0) (T := TX0) (N := 18) (ci := 0) in_X0 0 rfl rfl 7 (by decide) q58 rfl rfl hF hdg k
theorem xl7 (hF : JF E l cc own nL rm D cI cB) {a : Int} (hdg : decode cc pc = .ok (.iaload, 1)) (ha : 0 ≤ a ∧ a < 2) (k : J E ce sl (xw h0 ad cI cB st) (pc + 1) lv (iv (st 7 a) :: rest)) : J E ce sl (xw h0 ad cI cB st) pc lv (iv a :: .ref (ad 7) :: rest) :=
  j_ald 8 7 2 rfl (by decide) hF hdg ha k
theorem xset7 (a v : Int) : (xw h0 ad cI cB st).set 8 (ad 7, .inl (cI, 2, .inl (ca (sw st 7 a v) 7))) = xw h0 ad cI cB (sw st 7 a v) := by simp [xw, ca_ne, sw_ne]
/-- packEnd[a] = v -/
theorem xs7 (hF : JF E l cc own nL rm D cI cB) {a v : Int} (hdg : decode cc pc = .ok (.iastore, 1)) (ha : 0 ≤ a ∧ a < 2) (k : J E ce sl (xw h0 ad cI cB (sw st 7 a v)) (pc + 1) lv rest) : J E ce sl (xw h0 ad cI cB st) pc lv (iv v :: iv a :: .ref (ad 7) :: rest) :=
  j_ast 8 7 2 rfl (by decide) (xset7 a v) hF hdg ha k
/-- getfield packNode -/
theorem xg8 (hF : JF E l cc RX0 nL rm D cI cB) (hdg : decode cc pc = .ok (.getfield 34, 3)) (k : J E ce sl (xw h0 ad cI cB st) (pc + 3) lv (.ref (ad 8) :: rest)) : J E ce sl (xw h0 ad cI cB st) pc lv (.ref h0 :: rest) :=
  j_get (C := RX0) (T := TX0) (N := 18) (ci := 0) in_X0 0 rfl rfl 8 (by decide) q59 rfl rfl hF hdg k
theorem xl8 (hF : JF E l cc own nL rm D cI cB) {a : Int} (hdg : decode cc pc = .ok (.iaload, 1)) (ha : 0 ≤ a ∧ a < 12) (k : J E ce sl (xw h0 ad cI cB st) (pc + 1) lv (iv (st 8 a) :: rest)) : J E ce sl (xw h0 ad cI cB st) pc lv (iv a :: .ref (ad 8) :: rest) :=
  j_ald 9 8 12 rfl (by decide) hF hdg ha k
theorem xset8 (a v : Int) : (xw h0 ad cI cB st).set 9 (ad 8, .inl (cI, 12, .inl (ca (sw st 8 a v) 8))) = xw h0 ad cI cB (sw st 8 a v) := by simp [xw, ca_ne, sw_ne]
/-- packNode[a] = v -/
theorem xs8 (hF : JF E l cc own nL rm D cI cB) {a v : Int} (hdg : decode cc pc = .ok (.iastore, 1)) (ha : 0 ≤ a ∧ a < 12) (k : J E ce sl (xw h0 ad cI cB (sw st 8 a v)) (pc + 1) lv rest) : J E ce sl (xw h0 ad cI cB st) pc lv (iv v :: iv a :: .ref (ad 8) :: rest) :=
  j_ast 9 8 12 rfl (by decide) (xset8 a v) hF hdg ha k
/-- getfield packChain -/
theorem xg9 (hF : JF E l cc RX0 nL rm D cI cB) (hdg : decode cc pc = .ok (.getfield 37, 3)) (k : J E ce sl (xw h0 ad cI cB st) (pc + 3) lv (.ref (ad 9) :: rest)) : J E ce sl (xw h0 ad cI cB st) pc lv (.ref h0 :: rest) :=
  j_get (C := RX0) (T := TX0) (N := 18) (ci := 0) in_X0 0 rfl rfl 9 (by decide) q60 rfl rfl hF hdg k
theorem xl9 (hF : JF E l cc own nL rm D cI cB) {a : Int} (hdg : decode cc pc = .ok (.iaload, 1)) (ha : 0 ≤ a ∧ a < 2) (k : J E ce sl (xw h0 ad cI cB st) (pc + 1) lv (iv (st 9 a) :: rest)) : J E ce sl (xw h0 ad cI cB st) pc lv (iv a :: .ref (ad 9) :: rest) :=
  j_ald 10 9 2 rfl (by decide) hF hdg ha k
theorem xset9 (a v : Int) : (xw h0 ad cI cB st).set 10 (ad 9, .inl (cI, 2, .inl (ca (sw st 9 a v) 9))) = xw h0 ad cI cB (sw st 9 a v) := by simp [xw, ca_ne, sw_ne]
/-- packChain[a] = v -/
theorem xs9 (hF : JF E l cc own nL rm D cI cB) {a v : Int} (hdg : decode cc pc = .ok (.iastore, 1)) (ha : 0 ≤ a ∧ a < 2) (k : J E ce sl (xw h0 ad cI cB (sw st 9 a v)) (pc + 1) lv rest) : J E ce sl (xw h0 ad cI cB st) pc lv (iv v :: iv a :: .ref (ad 9) :: rest) :=
  j_ast 10 9 2 rfl (by decide) (xset9 a v) hF hdg ha k
/-- getfield nodeNow -/
theorem xg10 (hF : JF E l cc RX0 nL rm D cI cB) (hdg : decode cc pc = .ok (.getfield 40, 3)) (k : J E ce sl (xw h0 ad cI cB st) (pc + 3) lv (.ref (ad 10) :: rest)) : J E ce sl (xw h0 ad cI cB st) pc lv (.ref h0 :: rest) :=
  j_get (C := RX0) (T := TX0) (N := 18) (ci := 0) in_X0 0 rfl rfl 10 (by decide) q61 rfl rfl hF hdg k
theorem xl10 (hF : JF E l cc own nL rm D cI cB) {a : Int} (hdg : decode cc pc = .ok (.iaload, 1)) (ha : 0 ≤ a ∧ a < 6) (k : J E ce sl (xw h0 ad cI cB st) (pc + 1) lv (iv (st 10 a) :: rest)) : J E ce sl (xw h0 ad cI cB st) pc lv (iv a :: .ref (ad 10) :: rest) :=
  j_ald 11 10 6 rfl (by decide) hF hdg ha k
theorem xset10 (a v : Int) : (xw h0 ad cI cB st).set 11 (ad 10, .inl (cI, 6, .inl (ca (sw st 10 a v) 10))) = xw h0 ad cI cB (sw st 10 a v) := by simp [xw, ca_ne, sw_ne]
/-- nodeNow[a] = v -/
theorem xs10 (hF : JF E l cc own nL rm D cI cB) {a v : Int} (hdg : decode cc pc = .ok (.iastore, 1)) (ha : 0 ≤ a ∧ a < 6) (k : J E ce sl (xw h0 ad cI cB (sw st 10 a v)) (pc + 1) lv rest) : J E ce sl (xw h0 ad cI cB st) pc lv (iv v :: iv a :: .ref (ad 10) :: rest) :=
  j_ast 11 10 6 rfl (by decide) (xset10 a v) hF hdg ha k
/-- getfield nodeLasting -/
theorem xg11 (hF : JF E l cc RX0 nL rm D cI cB) (hdg : decode cc pc = .ok (.getfield 43, 3)) (k : J E ce sl (xw h0 ad cI cB st) (pc + 3) lv (.ref (ad 11) :: rest)) : J E ce sl (xw h0 ad cI cB st) pc lv (.ref h0 :: rest) :=
  j_get (C := RX0) (T := TX0) (N := 18) (ci := 0) in_X0 0 rfl rfl 11 (by decide) q62 rfl rfl hF hdg k
theorem xl11 (hF : JF E l cc own nL rm D cI cB) {a : Int} (hdg : decode cc pc = .ok (.iaload, 1)) (ha : 0 ≤ a ∧ a < 6) (k : J E ce sl (xw h0 ad cI cB st) (pc + 1) lv (iv (st 11 a) :: rest)) : J E ce sl (xw h0 ad cI cB st) pc lv (iv a :: .ref (ad 11) :: rest) :=
  j_ald 12 11 6 rfl (by decide) hF hdg ha k
theorem xset11 (a v : Int) : (xw h0 ad cI cB st).set 12 (ad 11, .inl (cI, 6, .inl (ca (sw st 11 a v) 11))) = xw h0 ad cI cB (sw st 11 a v) := by simp [xw, ca_ne, sw_ne]
/-- nodeLasting[a] = v -/
theorem xs11 (hF : JF E l cc own nL rm D cI cB) {a v : Int} (hdg : decode cc pc = .ok (.iastore, 1)) (ha : 0 ≤ a ∧ a < 6) (k : J E ce sl (xw h0 ad cI cB (sw st 11 a v)) (pc + 1) lv rest) : J E ce sl (xw h0 ad cI cB st) pc lv (iv v :: iv a :: .ref (ad 11) :: rest) :=
  j_ast 12 11 6 rfl (by decide) (xset11 a v) hF hdg ha k
/-- getfield young -/
theorem xg12 (hF : JF E l cc RX0 nL rm D cI cB) (hdg : decode cc pc = .ok (.getfield 46, 3)) (k : J E ce sl (xw h0 ad cI cB st) (pc + 3) lv (.ref (ad 12) :: rest)) : J E ce sl (xw h0 ad cI cB st) pc lv (.ref h0 :: rest) :=
  j_get (C := RX0) (T := TX0) (N := 18) (ci := 0) in_X0 0 rfl rfl 12 (by decide) q63 rfl rfl hF hdg k
theorem xl12 (hF : JF E l cc own nL rm D cI cB) {a : Int} (hdg : decode cc pc = .ok (.baload, 1)) (ha : 0 ≤ a ∧ a < 6) (k : J E ce sl (xw h0 ad cI cB st) (pc + 1) lv (iv (st 12 a) :: rest)) : J E ce sl (xw h0 ad cI cB st) pc lv (iv a :: .ref (ad 12) :: rest) :=
  j_zld 13 12 6 rfl (by decide) hF hdg ha k
theorem xset12 (a v : Int) : (xw h0 ad cI cB st).set 13 (ad 12, .inl (cB, 6, .inl (ca (sw st 12 a v) 12))) = xw h0 ad cI cB (sw st 12 a v) := by simp [xw, ca_ne, sw_ne]
/-- young[a] = v -/
theorem xs12 (hF : JF E l cc own nL rm D cI cB) {a v : Int} (hdg : decode cc pc = .ok (.bastore, 1)) (ha : 0 ≤ a ∧ a < 6) (hv : v = 0 ∨ v = 1) (k : J E ce sl (xw h0 ad cI cB (sw st 12 a v)) (pc + 1) lv rest) : J E ce sl (xw h0 ad cI cB st) pc lv (iv v :: iv a :: .ref (ad 12) :: rest) :=
  j_zst 13 12 6 rfl (by decide) (xset12 a v) hF hdg ha hv k
/-- getfield needed -/
theorem xg13 (hF : JF E l cc RX0 nL rm D cI cB) (hdg : decode cc pc = .ok (.getfield 50, 3)) (k : J E ce sl (xw h0 ad cI cB st) (pc + 3) lv (.ref (ad 13) :: rest)) : J E ce sl (xw h0 ad cI cB st) pc lv (.ref h0 :: rest) :=
  j_get (C := RX0) (T := TX0) (N := 18) (ci := 0) in_X0 0 rfl rfl 17 (by decide) q68 rfl rfl hF hdg k
theorem xl13 (hF : JF E l cc own nL rm D cI cB) {a : Int} (hdg : decode cc pc = .ok (.baload, 1)) (ha : 0 ≤ a ∧ a < 128) (k : J E ce sl (xw h0 ad cI cB st) (pc + 1) lv (iv (st 13 a) :: rest)) : J E ce sl (xw h0 ad cI cB st) pc lv (iv a :: .ref (ad 13) :: rest) :=
  j_zld 14 13 128 rfl (by decide) hF hdg ha k
theorem xset13 (a v : Int) : (xw h0 ad cI cB st).set 14 (ad 13, .inl (cB, 128, .inl (ca (sw st 13 a v) 13))) = xw h0 ad cI cB (sw st 13 a v) := by simp [xw, ca_ne, sw_ne]
/-- needed[a] = v -/
theorem xs13 (hF : JF E l cc own nL rm D cI cB) {a v : Int} (hdg : decode cc pc = .ok (.bastore, 1)) (ha : 0 ≤ a ∧ a < 128) (hv : v = 0 ∨ v = 1) (k : J E ce sl (xw h0 ad cI cB (sw st 13 a v)) (pc + 1) lv rest) : J E ce sl (xw h0 ad cI cB st) pc lv (iv v :: iv a :: .ref (ad 13) :: rest) :=
  j_zst 14 13 128 rfl (by decide) (xset13 a v) hF hdg ha hv k
/-- getfield chain -/
theorem xgs0 (hF : JF E l cc RX0 nL rm D cI cB) (hdg : decode cc pc = .ok (.getfield 53, 3)) (k : J E ce sl (xw h0 ad cI cB st) (pc + 3) lv (iv (st 14 0) :: rest)) : J E ce sl (xw h0 ad cI cB st) pc lv (.ref h0 :: rest) :=
  j_get (C := RX0) (T := TX0) (N := 18) (ci := 0) in_X0 0 rfl rfl 13 (by decide) q64 rfl rfl hF hdg k
theorem xsetS0 (v : Int) : (xw h0 ad cI cB st).set 0 (h0, .inr (0, [.ref (ad 0), .ref (ad 1), .ref (ad 2), .ref (ad 3), .ref (ad 4), .ref (ad 5), .ref (ad 6), .ref (ad 7), .ref (ad 8), .ref (ad 9), .ref (ad 10), .ref (ad 11), .ref (ad 12), iv v, iv (st 14 1), iv (st 14 2), iv (st 14 3), .ref (ad 13)])) = xw h0 ad cI cB (sw st 14 0 v) := by simp [xw, ca_ne, sw]
/-- chain = v -/
theorem xps0 (hF : JF E l cc RX0 nL rm D cI cB) {v : Int} (hdg : decode cc pc = .ok (.putfield 53, 3)) (k : J E ce sl (xw h0 ad cI cB (sw st 14 0 v)) (pc + 3) lv rest) : J E ce sl (xw h0 ad cI cB st) pc lv (iv v :: .ref h0 :: rest) :=
  j_put (C := RX0) (T := TX0) (N := 18) (ci := 0) in_X0 tyX0 tyX0_ok nmX0 0 rfl rfl 13 (by decide) q64 rfl rfl (by decide +kernel) (Nat.le_of_ble_eq_true rfl) (xsetS0 v) hF hdg k
/-- getfield chained -/
theorem xgs1 (hF : JF E l cc RX0 nL rm D cI cB) (hdg : decode cc pc = .ok (.getfield 67, 3)) (k : J E ce sl (xw h0 ad cI cB st) (pc + 3) lv (iv (st 14 1) :: rest)) : J E ce sl (xw h0 ad cI cB st) pc lv (.ref h0 :: rest) :=
  j_get (C := RX0) (T := TX0) (N := 18) (ci := 0) in_X0 0 rfl rfl 14 (by decide) q65 rfl rfl hF hdg k
theorem xsetS1 (v : Int) : (xw h0 ad cI cB st).set 0 (h0, .inr (0, [.ref (ad 0), .ref (ad 1), .ref (ad 2), .ref (ad 3), .ref (ad 4), .ref (ad 5), .ref (ad 6), .ref (ad 7), .ref (ad 8), .ref (ad 9), .ref (ad 10), .ref (ad 11), .ref (ad 12), iv (st 14 0), iv v, iv (st 14 2), iv (st 14 3), .ref (ad 13)])) = xw h0 ad cI cB (sw st 14 1 v) := by simp [xw, ca_ne, sw]
/-- chained = v -/
theorem xps1 (hF : JF E l cc RX0 nL rm D cI cB) {v : Int} (hdg : decode cc pc = .ok (.putfield 67, 3)) (k : J E ce sl (xw h0 ad cI cB (sw st 14 1 v)) (pc + 3) lv rest) : J E ce sl (xw h0 ad cI cB st) pc lv (iv v :: .ref h0 :: rest) :=
  j_put (C := RX0) (T := TX0) (N := 18) (ci := 0) in_X0 tyX0 tyX0_ok nmX0 0 rfl rfl 14 (by decide) q65 rfl rfl (by decide +kernel) (Nat.le_of_ble_eq_true rfl) (xsetS1 v) hF hdg k
/-- getfield number -/
theorem xgs2 (hF : JF E l cc RX0 nL rm D cI cB) (hdg : decode cc pc = .ok (.getfield 64, 3)) (k : J E ce sl (xw h0 ad cI cB st) (pc + 3) lv (iv (st 14 2) :: rest)) : J E ce sl (xw h0 ad cI cB st) pc lv (.ref h0 :: rest) :=
  j_get (C := RX0) (T := TX0) (N := 18) (ci := 0) in_X0 0 rfl rfl 15 (by decide) q66 rfl rfl hF hdg k
theorem xsetS2 (v : Int) : (xw h0 ad cI cB st).set 0 (h0, .inr (0, [.ref (ad 0), .ref (ad 1), .ref (ad 2), .ref (ad 3), .ref (ad 4), .ref (ad 5), .ref (ad 6), .ref (ad 7), .ref (ad 8), .ref (ad 9), .ref (ad 10), .ref (ad 11), .ref (ad 12), iv (st 14 0), iv (st 14 1), iv v, iv (st 14 3), .ref (ad 13)])) = xw h0 ad cI cB (sw st 14 2 v) := by simp [xw, ca_ne, sw]
/-- number = v -/
theorem xps2 (hF : JF E l cc RX0 nL rm D cI cB) {v : Int} (hdg : decode cc pc = .ok (.putfield 64, 3)) (k : J E ce sl (xw h0 ad cI cB (sw st 14 2 v)) (pc + 3) lv rest) : J E ce sl (xw h0 ad cI cB st) pc lv (iv v :: .ref h0 :: rest) :=
  j_put (C := RX0) (T := TX0) (N := 18) (ci := 0) in_X0 tyX0 tyX0_ok nmX0 0 rfl rfl 15 (by decide) q66 rfl rfl (by decide +kernel) (Nat.le_of_ble_eq_true rfl) (xsetS2 v) hF hdg k
/-- getfield segment -/
theorem xgs3 (hF : JF E l cc RX0 nL rm D cI cB) (hdg : decode cc pc = .ok (.getfield 73, 3)) (k : J E ce sl (xw h0 ad cI cB st) (pc + 3) lv (iv (st 14 3) :: rest)) : J E ce sl (xw h0 ad cI cB st) pc lv (.ref h0 :: rest) :=
  j_get (C := RX0) (T := TX0) (N := 18) (ci := 0) in_X0 0 rfl rfl 16 (by decide) q67 rfl rfl hF hdg k
theorem xsetS3 (v : Int) : (xw h0 ad cI cB st).set 0 (h0, .inr (0, [.ref (ad 0), .ref (ad 1), .ref (ad 2), .ref (ad 3), .ref (ad 4), .ref (ad 5), .ref (ad 6), .ref (ad 7), .ref (ad 8), .ref (ad 9), .ref (ad 10), .ref (ad 11), .ref (ad 12), iv (st 14 0), iv (st 14 1), iv (st 14 2), iv v, .ref (ad 13)])) = xw h0 ad cI cB (sw st 14 3 v) := by simp [xw, ca_ne, sw]
/-- segment = v -/
theorem xps3 (hF : JF E l cc RX0 nL rm D cI cB) {v : Int} (hdg : decode cc pc = .ok (.putfield 73, 3)) (k : J E ce sl (xw h0 ad cI cB (sw st 14 3 v)) (pc + 3) lv rest) : J E ce sl (xw h0 ad cI cB st) pc lv (iv v :: .ref h0 :: rest) :=
  j_put (C := RX0) (T := TX0) (N := 18) (ci := 0) in_X0 tyX0 tyX0_ok nmX0 0 rfl rfl 16 (by decide) q67 rfl rfl (by decide +kernel) (Nat.le_of_ble_eq_true rfl) (xsetS3 v) hF hdg k
end
/-- the cells of an object of class 1: arrays 0 there, 1 sizes, 2 words, 3 young -/
def mw (h1 : Nat) (bd : Nat → Nat) (cI cB : ClassId) (st : PS) : va_W := [(h1, .inr (1, [.ref (bd 0), .ref (bd 1), .ref (bd 2), .ref (bd 3)])), (bd 0, .inl (cB, 12, .inl (ca st 0))), (bd 1, .inl (cI, 12, .inl (ca st 1))), (bd 2, .inl (cI, 48, .inl (ca st 2))), (bd 3, .inl (cB, 6, .inl (ca st 3)))]
section
variable {E : JE} {l : Launch} {cc : ByteArray} {own : String} {nL : Nat} {rm : Room} {D : va_G} {cI cB : ClassId} {ce sl : Nat} {pc : Nat} {lv : List (Nat × Value)} {rest : List Value} {h1 : Nat} {bd : Nat → Nat} {st : PS}
/-- getfield there -/
theorem mg0 (hF : JF E l cc RX1 nL rm D cI cB) (hdg : decode cc pc = .ok (.getfield 7, 3)) (k : J E ce sl (mw h1 bd cI cB st) (pc + 3) lv (.ref (bd 0) :: rest)) : J E ce sl (mw h1 bd cI cB st) pc lv (.ref h1 :: rest) :=
  j_get (C := RX1) (T := TX1) (N := 4) (ci := 1) in_X1 0 rfl rfl 0 (by decide) q186 rfl rfl hF hdg k
theorem ml0 (hF : JF E l cc own nL rm D cI cB) {a : Int} (hdg : decode cc pc = .ok (.baload, 1)) (ha : 0 ≤ a ∧ a < 12) (k : J E ce sl (mw h1 bd cI cB st) (pc + 1) lv (iv (st 0 a) :: rest)) : J E ce sl (mw h1 bd cI cB st) pc lv (iv a :: .ref (bd 0) :: rest) :=
  j_zld 1 0 12 rfl (by decide) hF hdg ha k
theorem mset0 (a v : Int) : (mw h1 bd cI cB st).set 1 (bd 0, .inl (cB, 12, .inl (ca (sw st 0 a v) 0))) = mw h1 bd cI cB (sw st 0 a v) := by simp [mw, ca_ne, sw_ne]
/-- there[a] = v -/
theorem ms0 (hF : JF E l cc own nL rm D cI cB) {a v : Int} (hdg : decode cc pc = .ok (.bastore, 1)) (ha : 0 ≤ a ∧ a < 12) (hv : v = 0 ∨ v = 1) (k : J E ce sl (mw h1 bd cI cB (sw st 0 a v)) (pc + 1) lv rest) : J E ce sl (mw h1 bd cI cB st) pc lv (iv v :: iv a :: .ref (bd 0) :: rest) :=
  j_zst 1 0 12 rfl (by decide) (mset0 a v) hF hdg ha hv k
/-- getfield sizes -/
theorem mg1 (hF : JF E l cc RX1 nL rm D cI cB) (hdg : decode cc pc = .ok (.getfield 13, 3)) (k : J E ce sl (mw h1 bd cI cB st) (pc + 3) lv (.ref (bd 1) :: rest)) : J E ce sl (mw h1 bd cI cB st) pc lv (.ref h1 :: rest) :=
  j_get (C := RX1) (T := TX1) (N := 4) (ci := 1) in_X1 0 rfl rfl 1 (by decide) q187 rfl rfl hF hdg k
theorem ml1 (hF : JF E l cc own nL rm D cI cB) {a : Int} (hdg : decode cc pc = .ok (.iaload, 1)) (ha : 0 ≤ a ∧ a < 12) (k : J E ce sl (mw h1 bd cI cB st) (pc + 1) lv (iv (st 1 a) :: rest)) : J E ce sl (mw h1 bd cI cB st) pc lv (iv a :: .ref (bd 1) :: rest) :=
  j_ald 2 1 12 rfl (by decide) hF hdg ha k
theorem mset1 (a v : Int) : (mw h1 bd cI cB st).set 2 (bd 1, .inl (cI, 12, .inl (ca (sw st 1 a v) 1))) = mw h1 bd cI cB (sw st 1 a v) := by simp [mw, ca_ne, sw_ne]
/-- sizes[a] = v -/
theorem ms1 (hF : JF E l cc own nL rm D cI cB) {a v : Int} (hdg : decode cc pc = .ok (.iastore, 1)) (ha : 0 ≤ a ∧ a < 12) (k : J E ce sl (mw h1 bd cI cB (sw st 1 a v)) (pc + 1) lv rest) : J E ce sl (mw h1 bd cI cB st) pc lv (iv v :: iv a :: .ref (bd 1) :: rest) :=
  j_ast 2 1 12 rfl (by decide) (mset1 a v) hF hdg ha k
/-- getfield words -/
theorem mg2 (hF : JF E l cc RX1 nL rm D cI cB) (hdg : decode cc pc = .ok (.getfield 17, 3)) (k : J E ce sl (mw h1 bd cI cB st) (pc + 3) lv (.ref (bd 2) :: rest)) : J E ce sl (mw h1 bd cI cB st) pc lv (.ref h1 :: rest) :=
  j_get (C := RX1) (T := TX1) (N := 4) (ci := 1) in_X1 0 rfl rfl 2 (by decide) q188 rfl rfl hF hdg k
theorem ml2 (hF : JF E l cc own nL rm D cI cB) {a : Int} (hdg : decode cc pc = .ok (.iaload, 1)) (ha : 0 ≤ a ∧ a < 48) (k : J E ce sl (mw h1 bd cI cB st) (pc + 1) lv (iv (st 2 a) :: rest)) : J E ce sl (mw h1 bd cI cB st) pc lv (iv a :: .ref (bd 2) :: rest) :=
  j_ald 3 2 48 rfl (by decide) hF hdg ha k
theorem mset2 (a v : Int) : (mw h1 bd cI cB st).set 3 (bd 2, .inl (cI, 48, .inl (ca (sw st 2 a v) 2))) = mw h1 bd cI cB (sw st 2 a v) := by simp [mw, ca_ne, sw_ne]
/-- words[a] = v -/
theorem ms2 (hF : JF E l cc own nL rm D cI cB) {a v : Int} (hdg : decode cc pc = .ok (.iastore, 1)) (ha : 0 ≤ a ∧ a < 48) (k : J E ce sl (mw h1 bd cI cB (sw st 2 a v)) (pc + 1) lv rest) : J E ce sl (mw h1 bd cI cB st) pc lv (iv v :: iv a :: .ref (bd 2) :: rest) :=
  j_ast 3 2 48 rfl (by decide) (mset2 a v) hF hdg ha k
/-- getfield young -/
theorem mg3 (hF : JF E l cc RX1 nL rm D cI cB) (hdg : decode cc pc = .ok (.getfield 20, 3)) (k : J E ce sl (mw h1 bd cI cB st) (pc + 3) lv (.ref (bd 3) :: rest)) : J E ce sl (mw h1 bd cI cB st) pc lv (.ref h1 :: rest) :=
  j_get (C := RX1) (T := TX1) (N := 4) (ci := 1) in_X1 0 rfl rfl 3 (by decide) q189 rfl rfl hF hdg k
theorem ml3 (hF : JF E l cc own nL rm D cI cB) {a : Int} (hdg : decode cc pc = .ok (.baload, 1)) (ha : 0 ≤ a ∧ a < 6) (k : J E ce sl (mw h1 bd cI cB st) (pc + 1) lv (iv (st 3 a) :: rest)) : J E ce sl (mw h1 bd cI cB st) pc lv (iv a :: .ref (bd 3) :: rest) :=
  j_zld 4 3 6 rfl (by decide) hF hdg ha k
theorem mset3 (a v : Int) : (mw h1 bd cI cB st).set 4 (bd 3, .inl (cB, 6, .inl (ca (sw st 3 a v) 3))) = mw h1 bd cI cB (sw st 3 a v) := by simp [mw, ca_ne, sw_ne]
/-- young[a] = v -/
theorem ms3 (hF : JF E l cc own nL rm D cI cB) {a v : Int} (hdg : decode cc pc = .ok (.bastore, 1)) (ha : 0 ≤ a ∧ a < 6) (hv : v = 0 ∨ v = 1) (k : J E ce sl (mw h1 bd cI cB (sw st 3 a v)) (pc + 1) lv rest) : J E ce sl (mw h1 bd cI cB st) pc lv (iv v :: iv a :: .ref (bd 3) :: rest) :=
  j_zst 4 3 6 rfl (by decide) (mset3 a v) hF hdg ha hv k
end
end
section
/-! CONSTRUCTORS in the layer J: a new array, a final field, Object's own constructor, a constructor's contract MC, a call of it -/
set_option maxRecDepth 100000
def z0 : PS := fun _ _ => 0
theorem ra_eq {U : State} {c1 c2 : ClassId} {ty : FieldType} (h : ty = .int ∨ ty = .boolean) (h1 : va_RA U c1 ty) (h2 : va_RA U c2 ty) : c1 = c2 := by
  rcases h with rfl | rfl
  · have h1 : U.vm.findClass _ = some c1 := h1
    have h2 : U.vm.findClass _ = some c2 := h2
    exact Option.some.inj (h1.symm.trans h2)
  · have h1 : U.vm.findClass _ = some c1 := h1
    have h2 : U.vm.findClass _ = some c2 := h2
    exact Option.some.inj (h1.symm.trans h2)
theorem i_nat {n : Nat} (hn : n ≤ 100000) : ¬ Int32.ofInt (n : Int) < 0 ∧ (Int32.ofInt (n : Int)).toNatClampNeg = n := by
  constructor
  · intro h
    have := (i_lt (a := (n : Int)) (b := 0) (by omega) (by decide)).mp h
    omega
  · rw [Int32.toNatClampNeg_ofInt_of_le (by omega) (by omega)]
    exact Int.toNat_natCast n
/-- the method that runs is a constructor -/
def JN (E : JE) : Prop := match E with
  | (_, _, _, _, _, _, _, _, meth, _, _, _, _, _) => meth.name = "<init>"
section
variable {E : JE} {l : Launch} {cc : ByteArray} {own : String} {nL : Nat} {rm : Room} {D : va_G} {cI cB : ClassId} {ce sl : Nat} {ws : va_W} {pc : Nat} {lv : List (Nat × Value)} {rest : List Value}
/-- a new array of ints -/
theorem j_newI (kk n : Nat) (hn : n ≤ 100000) {v : Int} (hv : v = (n : Int)) (hF : JF E l cc own nL rm D cI cB) (hdg : decode cc pc = .ok (.newarray .int, 2)) (hc : ce + 1 ≤ rm.cells) (hs : sl + n ≤ rm.slots) (k : ∀ q : Nat, J E (ce + 1) (sl + n) (ws ++ [(q, .inl (cI, n, .inl (ca z0 kk)))]) (pc + 2) lv (.ref q :: rest)) : J E ce sl ws pc lv (iv v :: rest) := by
  obtain ⟨p, l', e, R, s, m, args, below, meth, c, nL', Q, D', A⟩ := E
  obtain ⟨hx, hb, rfl, hml, rfl, rfl, rfl, hown, hts, hK, hA, hlk⟩ := hF
  intro H locs ls hP hD hS hl
  subst hv
  obtain ⟨n1, n2⟩ := i_nat hn
  refine va_newa (atype := .int) (ty := .int) (N' := n) (a0 := (n, .inl (ca z0 kk))) hx hb (hts _ q106) rfl hK hP hD hS hA (fun cA => rfl) n1 n2 (by show n * 4 ≤ 536870912; omega) hc hs hdg (fun q cA H1 hK1 hP1 hD1 hS1 => ?_)
  have e : cA = cI := ra_eq (Or.inl rfl) (hK1.2 2 (cA, .int) rfl).2 (hK.2 0 (cI, .int) rfl).2
  rw [e] at hP1 hD1
  exact k q H1 locs ls hP1 hD1 hS1 hl
/-- a new array of booleans -/
theorem j_newZ (kk n : Nat) (hn : n ≤ 100000) {v : Int} (hv : v = (n : Int)) (hF : JF E l cc own nL rm D cI cB) (hdg : decode cc pc = .ok (.newarray .boolean, 2)) (hc : ce + 1 ≤ rm.cells) (hs : sl + n ≤ rm.slots) (k : ∀ q : Nat, J E (ce + 1) (sl + n) (ws ++ [(q, .inl (cB, n, .inl (ca z0 kk)))]) (pc + 2) lv (.ref q :: rest)) : J E ce sl ws pc lv (iv v :: rest) := by
  obtain ⟨p, l', e, R, s, m, args, below, meth, c, nL', Q, D', A⟩ := E
  obtain ⟨hx, hb, rfl, hml, rfl, rfl, rfl, hown, hts, hK, hA, hlk⟩ := hF
  intro H locs ls hP hD hS hl
  subst hv
  obtain ⟨n1, n2⟩ := i_nat hn
  refine va_newa (atype := .boolean) (ty := .boolean) (N' := n) (a0 := (n, .inl (ca z0 kk))) hx hb (hts _ q107) rfl hK hP hD hS hA (fun cA => rfl) n1 n2 (by show n * 1 ≤ 536870912; omega) hc hs hdg (fun q cA H1 hK1 hP1 hD1 hS1 => ?_)
  have e : cA = cB := ra_eq (Or.inr rfl) (hK1.2 2 (cA, .boolean) rfl).2 (hK.2 1 (cB, .boolean) rfl).2
  rw [e] at hP1 hD1
  exact k q H1 locs ls hP1 hD1 hS1 hl
/-- a final field that holds a reference is set in the constructor -/
theorem j_putF {C : String} {T : u_T} {N ci idx : Nat} {fs : List Value} {b x : Nat} {ty : FieldType} {ws' : va_W} (hin : ∀ w ∈ u_ws C T N, w ∈ lw_all) (ty0 : Nat → FieldType) (hty : ∀ k, k < N → parseFieldDescriptor (T k).2.2.1 = some (ty0 k)) (hnm : ∀ a, a < N → ∀ b, b < N → a ≠ b → (T a).2.1 ≠ (T b).2.1) (q0 : Nat) (he : ws[q0]? = some (b, .inr (ci, fs))) (hc : vwCl[ci]? = some (C, T, N)) (fk : Nat) (hk : fk < N) (hlink : Cond.fieldLink own idx C (T fk).2.1 (T fk).2.2.1 ∈ lw_all) (hsm : (T fk).1 = C) (hfin : (T fk).2.2.2 = true) (hdecl : (T fk).1 = own) (hd : parseFieldDescriptor (T fk).2.2.1 = some ty) (hn : narrow ty (.ref x) = .ref x) (hfit : fits ty (.ref x) = true) (hl0 : fk < fs.length) (hs : ws.set q0 (b, .inr (ci, fs.set fk (.ref x))) = ws') (hF : JF E l cc own nL rm D cI cB) (hN : JN E) (hdg : decode cc pc = .ok (.putfield idx, 3)) (k : J E ce sl ws' (pc + 3) lv rest) : J E ce sl ws pc lv (.ref x :: .ref b :: rest) := by
  obtain ⟨p, l', e, R, s, m, args, below, meth, c, nL', Q, D', A⟩ := E
  obtain ⟨hx, hb, rfl, hml, rfl, rfl, rfl, hown, hts, hK, hA, hlk⟩ := hF
  have hN : meth.name = "<init>" := hN
  intro H locs ls hP hD hS hl
  refine va_putF (ci := ci) (v := .ref x) (ty := ty) (C := C) (T := T) (N := N) hx hb hts hin ty0 hty hnm hown hK hP hD hS q0 he hc fk hk (hts _ hlink) (fun x h9 => by rw [hsm] at h9; exact h9) hfin hN hdecl hd hn hfit hl0 hdg (fun H1 locs1 hP1 hD1 hS1 => ?_)
  rw [hs] at hP1 hD1
  exact k H1 locs1 ls hP1 hD1 hS1 hl
/-- Object's own constructor -/
theorem j_obj {idx x : Nat} (hF : JF E l cc own nL rm D cI cB) (h1 : Cond.methodLink own idx Lib.objectInit ∈ lw_all) (hfr : 1 ≤ rm.frames) (hlo : 12 ≤ rm.locals) (hdg : decode cc pc = .ok (.invokespecial idx, 3)) (k : J E ce sl ws (pc + 3) lv []) : J E ce sl ws pc lv [.ref x] := by
  obtain ⟨p, l', e, R, s, m, args, below, meth, c, nL', Q, D', A⟩ := E
  obtain ⟨hx, hb, rfl, hml, rfl, rfl, rfl, hown, hts, hK, hA, hlk⟩ := hF
  intro H locs ls hP hD hS hl
  refine W.objInit hx hb hown (hts _ h1) (hts _ q25) (hts _ q26) rfl (by rw [hml]; exact hl.1) rfl hdg hfr hlo ?_
  exact W.eq (g2 := F0 m (pc + 3) ls []) rfl (k H locs ls hP hD hS hl)
/-- a new object -/
theorem j_new {C : String} {T : u_T} {N ci idx : Nat} {fs : List Value} (hin : ∀ w ∈ u_ws C T N, w ∈ lw_all) (ty0 : Nat → FieldType) (hty : ∀ k, k < N → parseFieldDescriptor (T k).2.2.1 = some (ty0 k)) (hcl : Cond.classLink own idx C ∈ lw_all) (hinst : Cond.instantiable C N ∈ lw_all) (hini : Cond.initialized C ∈ lw_all) (hc : vwCl[ci]? = some (C, T, N)) (hfs : ∀ j, j < N → defaultValue (ty0 j) = vp_V fs j) (hF : JF E l cc own nL rm D cI cB) (h1 : ce + 1 ≤ rm.cells) (h2 : sl + N ≤ rm.slots) (hdg : decode cc pc = .ok (.new idx, 3)) (k : ∀ q : Nat, J E (ce + 1) (sl + N) (ws ++ [(q, .inr (ci, fs))]) (pc + 3) lv (.ref q :: rest)) : J E ce sl ws pc lv rest := by
  obtain ⟨p, l', e, R, s, m, args, below, meth, c, nL', Q, D', A⟩ := E
  obtain ⟨hx, hb, rfl, hml, rfl, rfl, rfl, hown, hts, hK, hA, hlk⟩ := hF
  intro H locs ls hP hD hS hl
  exact va_new (ci := ci) (fs := fs) (C := C) (T := T) (N := N) hx hb hts hin ty0 hty hown (hts _ hcl) (hts _ hinst) (hts _ hini) hK hP hD hS hA hc hfs h1 h2 hdg (fun q H1 hP1 hD1 hS1 => k q H1 locs ls hP1 hD1 hS1 hl)
end
/-- the contract of a constructor: from the picture w0 it leaves the picture wf ad u, for some addresses ad, with post u; it makes mc cells of ms slots -/
def MC (l : Launch) (D : va_G) (cI cB : ClassId) (w0 : va_W) (wf : (Nat → Nat) → PS → va_W) (y : MethodName) (cy : ByteArray) (Ly fr lo mc ms : Nat) (As : List Value) (post : PS → Prop) : Prop :=
  ∀ sz : Nat, Met l y (ws_ y cy Ly none) { frames := fr, cells := mc, slots := ms, locals := lo } (va_Pc As (CP D cI cB sz w0)) (va_Qv (fun u : (Nat → Nat) × PS => post u.2) (fun u => CB D cI cB (va_A w0 sz) (wf u.1) u.2) (va_A w0 sz)) mc ms (va_A w0 sz)
section
variable {l : Launch} {D : va_G} {cI cB : ClassId} {w0 : va_W} {wf : (Nat → Nat) → PS → va_W} {y : MethodName} {cy : ByteArray} {Ly fr lo mc ms : Nat} {As : List Value} {post : PS → Prop}
theorem MC_of (hy : plainName y.cls = true) (hin : y.name = "<init>") (hAs : (lg_sl As).length ≤ Ly) (h : ∀ E : JE, JF E l cy y.cls Ly { frames := fr, cells := mc, slots := ms, locals := lo } D cI cB → JN E → (∀ (ad : Nat → Nat) (u : PS) (pc : Nat) (lv : List (Nat × Value)), decode cy pc = .ok (.return_, 1) → post u → J E mc ms (wf ad u) pc lv []) → J E 0 0 w0 0 (lv_args 0 As) []) : MC l D cI cB w0 wf y cy Ly fr lo mc ms As post := by
  intro sz
  refine Met.ofW (cc := cy) (maxL := Ly) (ret := none) hy rfl ?_
  intro p e s m args below meth c s₁ B hml hv
  obtain ⟨rfl, hsz, hP, hK, hD0⟩ := hv
  have hts := atoms_spec (ws := ws_ y cy Ly none) B.pre
  have hts : ∀ w ∈ lw_all, w.before _ s = true := fun w h => hts w (List.mem_cons_of_mem _ h)
  have hown : s.vm.findClass y.cls = some m.cls := findClass_of_methodNamed B.named
  have hN : meth.name = "<init>" := ((name_of_methodNamed B.named B.method).1).trans hin
  subst hsz
  have hD := hD0.self (sz := s.heap.size)
  have hS : va_S (va_A w0 s.heap.size) s.heap s.heap [] := va_S.rf
  have hl := lv_entry As (n := Ly) hAs
  rw [lg_entry_eq]
  generalize (lg_sl As ++ List.replicate (Ly - (lg_sl As).length) Slot.unset).toArray = ls at hl ⊢
  refine h (p, l, e, { frames := fr, cells := mc, slots := ms, locals := lo }, s, m, As.toArray, below, meth, c, Ly, MQ below _ As.toArray s mc ms _, D, va_A w0 s.heap.size) ⟨B.exec, B.bytes, rfl, hml, rfl, rfl, rfl, hown, hts, hK, fun q h => Or.inr h, B.notSynchronized⟩ hN ?_ s.heap [] ls hP hD hS hl
  intro ad u pc lv hdg hpost H locs ls2 hP2 hD2 hS2 hl2
  exact W.vret B.exec B.bytes B.returns (fun t ht hW => ⟨⟨(ad, u), rfl, hpost, by rw [ht]; exact hP2, va_K.moved hW.alike hK, hD2⟩, hS2.F ht⟩) hS2.2.2 hdg B.notSynchronized
end
section
variable {E : JE} {l : Launch} {cc : ByteArray} {own : String} {nL : Nat} {rm : Room} {D : va_G} {cI cB : ClassId} {ce sl : Nat} {ws : va_W} {pc : Nat} {lv : List (Nat × Value)} {w0 wr : va_W} {wf : (Nat → Nat) → PS → va_W} {y : MethodName} {cy : ByteArray} {Ly fr lo mc ms : Nat} {As : List Value} {b : Nat} {idx n : Nat} {stk : List Value} {post : PS → Prop}
/-- a constructor is called on the cells isC; the others, isR, stay -/
theorem j_callC (hF : JF E l cc own nL rm D cI cB) (hM : MC l D cI cB w0 wf y cy Ly fr lo mc ms (.ref b :: As) post) (h1 : Cond.methodLink own idx y ∈ lw_all) (h2 : Cond.instanceMethod y ∈ lw_all) (h4 : Cond.initialized y.cls ∈ lw_all) (h5 : Cond.code y cy Ly none ∈ lw_all) (hy1 : y.name = "<init>")
    (hd : y.cls ≠ "java/lang/invoke/MethodHandle" ∧ y.cls ≠ "java/lang/invoke/VarHandle" ∧ (parseMethodDescriptor y.desc).map (fun d => d.parameters.length) = some n) (hR : fr + 1 ≤ rm.frames ∧ 8 + (Ly + 11) + lo ≤ rm.locals) (hf : ce + mc ≤ rm.cells ∧ sl + ms ≤ rm.slots) (hn : As.length = n)
    (isC isR : List Nat) (hP0 : isC.filterMap (fun i => ws[i]?) = w0) (hC : isC.map (fun i => ws[i]?) = w0.map some) (hR2 : isR.map (fun i => ws[i]?) = wr.map some) (hnC : va_nd isC = true) (hnR : va_nd isR = true) (hdis : ∀ i ∈ isR, i ∉ isC)
    (rest : List Value) (hstk : stk = As.reverse ++ .ref b :: rest) (hrest : (rest.map fun v => v.category).sum ≤ 8) (hdg : decode cc pc = .ok (.invokespecial idx, 3))
    (k : ∀ (ad : Nat → Nat) (u : PS), post u → J E (ce + mc) (sl + ms) (wr ++ wf ad u) (pc + 3) lv rest) : J E ce sl ws pc lv stk := by
  obtain ⟨p, l', e, R, s, m, args, below, meth, c, nL', Q, D', A⟩ := E
  obtain ⟨hx, hb, rfl, hml, rfl, rfl, rfl, hown, hts, hK, hA, hlk⟩ := hF
  intro H locs ls hP hD hS hl
  have hPc := hP.sub (ws' := w0) isC hP0
  have hDc := hD.sub (ws' := w0) isC hnC hC
  have hFc := va_free (wc := w0) hD hS hA isC hC
  refine va_callv (va_runI (As := As) (rest := rest) ⟨hx, hb, hml, hown, hts⟩ (hM H.size) (cwI n hts (lw_meth h5) rfl rfl rfl (hts _ h4) (hts _ h1) (hts _ h2) hy1 hd hR) ⟨fun a U g mk q => by obtain ⟨q0, q1, qP, qK, qD⟩ := q; exact ⟨q0, q1, qP, va_K.moved (u := U) (U := U.calling g mk a) (Vm.Alike.refl U.vm) qK, qD⟩, fun U hU hW => ⟨rfl, by rw [hU], by rw [hU]; exact hPc, va_K.moved hW.alike hK, hDc.weaken (fun _ _ _ _ => trivial)⟩⟩ rfl hn hl.1 hstk (lv_room hrest) hdg hf) hS (fun q _ h => hFc q h) hFc (fun u t H1 locs1 ht hvm hw1 hB hz1 hk1 hS1 => ?_)
  obtain ⟨hP1, hK1, hD1⟩ := hB
  rw [ht] at hP1
  obtain ⟨hP2, hD2⟩ := va_join (wr := wr) (w1 := wf u.1 u.2) hP hD isC isR hC hR2 hnR hdis hk1 hFc hP1 hD1
  exact k u.1 u.2 hw1 H1 locs1 ls hP2 hD2 hS1 hl
end
end
section
/-! THE CONSTRUCTOR of NodeTableFilesModel (written by gen/m_init.py) -/
set_option maxRecDepth 100000
/-- the cell of a new object of class 1 -/
abbrev mw0 (h1 : Nat) : va_W := [(h1, .inr (1, [.null, .null, .null, .null]))]
set_option maxHeartbeats 4000000 in
theorem mm_init (l : Launch) (D : va_G) (cI cB : ClassId) (h1 : Nat) : MC l D cI cB (mw0 h1) (fun ad => mw h1 ad cI cB) yX1_init cX1_init 1 1 12 4 78 [.ref h1] (fun u => u = z0) := by
  refine MC_of (by decide +kernel) rfl (Nat.le_of_ble_eq_true rfl) (fun E hF hN hret => ?_)
  have hF : JF E l cX1_init RX1 1 { frames := 1, cells := 4, slots := 78, locals := 12 } D cI cB := hF
  show J E 0 0 [(h1, .inr (1, [.null, .null, .null, .null]))] 0 [(0, .ref h1)] []
  refine j_aload_n hF dX1_init_0 rfl 0 rfl ?_
  refine j_obj hF q185 (Nat.le_of_ble_eq_true rfl) (Nat.le_of_ble_eq_true rfl) dX1_init_1 ?_
  refine j_aload_n hF dX1_init_4 rfl 0 rfl ?_
  refine j_bipush hF dX1_init_5 (by decide) ?_
  refine j_newZ 0 12 (by decide) (by decide) hF dX1_init_7 (Nat.le_of_ble_eq_true rfl) (Nat.le_of_ble_eq_true rfl) (fun a0 => ?_)
  refine j_putF (C := RX1) (T := TX1) (N := 4) (ci := 1) (ty := tyX1 0) (ws' := [(h1, .inr (1, [.ref a0, .null, .null, .null])), (a0, .inl (cB, 12, .inl (ca z0 0)))]) in_X1 tyX1 tyX1_ok nmX1 0 rfl rfl 0 (by decide) q186 rfl rfl rfl (by decide +kernel) rfl rfl (Nat.le_of_ble_eq_true rfl) rfl hF hN dX1_init_9 ?_
  refine j_aload_n hF dX1_init_12 rfl 0 rfl ?_
  refine j_bipush hF dX1_init_13 (by decide) ?_
  refine j_newI 1 12 (by decide) (by decide) hF dX1_init_15 (Nat.le_of_ble_eq_true rfl) (Nat.le_of_ble_eq_true rfl) (fun a1 => ?_)
  refine j_putF (C := RX1) (T := TX1) (N := 4) (ci := 1) (ty := tyX1 1) (ws' := [(h1, .inr (1, [.ref a0, .ref a1, .null, .null])), (a0, .inl (cB, 12, .inl (ca z0 0))), (a1, .inl (cI, 12, .inl (ca z0 1)))]) in_X1 tyX1 tyX1_ok nmX1 0 rfl rfl 1 (by decide) q187 rfl rfl rfl (by decide +kernel) rfl rfl (Nat.le_of_ble_eq_true rfl) rfl hF hN dX1_init_17 ?_
  refine j_aload_n hF dX1_init_20 rfl 0 rfl ?_
  refine j_bipush hF dX1_init_21 (by decide) ?_
  refine j_newI 2 48 (by decide) (by decide) hF dX1_init_23 (Nat.le_of_ble_eq_true rfl) (Nat.le_of_ble_eq_true rfl) (fun a2 => ?_)
  refine j_putF (C := RX1) (T := TX1) (N := 4) (ci := 1) (ty := tyX1 2) (ws' := [(h1, .inr (1, [.ref a0, .ref a1, .ref a2, .null])), (a0, .inl (cB, 12, .inl (ca z0 0))), (a1, .inl (cI, 12, .inl (ca z0 1))), (a2, .inl (cI, 48, .inl (ca z0 2)))]) in_X1 tyX1 tyX1_ok nmX1 0 rfl rfl 2 (by decide) q188 rfl rfl rfl (by decide +kernel) rfl rfl (Nat.le_of_ble_eq_true rfl) rfl hF hN dX1_init_25 ?_
  refine j_aload_n hF dX1_init_28 rfl 0 rfl ?_
  refine j_bipush hF dX1_init_29 (by decide) ?_
  refine j_newZ 3 6 (by decide) (by decide) hF dX1_init_31 (Nat.le_of_ble_eq_true rfl) (Nat.le_of_ble_eq_true rfl) (fun a3 => ?_)
  refine j_putF (C := RX1) (T := TX1) (N := 4) (ci := 1) (ty := tyX1 3) (ws' := mw h1 (fun k => [a0, a1, a2, a3].getD k 0) cI cB z0) in_X1 tyX1 tyX1_ok nmX1 0 rfl rfl 3 (by decide) q189 rfl rfl rfl (by decide +kernel) rfl rfl (Nat.le_of_ble_eq_true rfl) rfl hF hN dX1_init_33 ?_
  refine j_widen (ce' := 4) (sl' := 78) (Nat.le_of_ble_eq_true rfl) (Nat.le_of_ble_eq_true rfl) ?_
  exact hret _ z0 _ _ dX1_init_36 rfl
end
section
/-! THE CLAIM OUT OF ONE WALK OF THE LAW'S BODY: the skeleton's rows (a starting text), then the law's own rows of the layer J -/
set_option maxRecDepth 100000
def R_law : String := "NodeTableFilesLaw"
def lw_P (b : Addr) (xs : List Int32) (args : Array Value) (s : State) : Prop := args = #[.ref b] ∧ s.IntsAt b xs ∧ xs.length ≤ 256 ∧ (Jvm.Cond.and given_1 narrow_1).before args s = true
def lw_Q (_ : Array Value) (s : State) (o : Outcome) (t : State) : Prop := o = .returned (some (.int 1)) ∧ Framed s o t [] 600000 7290000
def lw_Z (below : List Frame) (a : Array Value) (s : State) : State → Prop := fun t => ∃ o, t.status = .running ∧ Ended t below o ∧ lw_Q a s o t
/-- the law's own end, with 1 on the stack, nothing written that was there before, its room as the claim has it -/
theorem lw_ret {p : Program} {l : Launch} {e : Env} {s : State} {m : MethodId} {below : List Frame} {meth : Method} {c : Code} {b : Nat} (hx : p.tables.exec = Jvm.exec) (hb : c.code = code) (hr : meth.sig.returnType = ret) (hlocks : meth.locks = false) {pc : Nat} {H : Heap} {ls : Array Slot} (hdg : decode code pc = .ok (.ireturn, 1)) : W p l e room_1 s m #[Value.ref b] below meth c H [] 600000 7290000 (lw_Z below #[Value.ref b] s) (F0 m pc ls [.int 1]) := by
  intro T hT X
  obtain ⟨fs, hret, hrun, hended, hW, hframe⟩ := X.leave (v := some (.int 1)) (hlocks := hlocks) (fun h => by rw [hr] at h; cases h)
  have hmeth' : T.vm.method? m = some meth := X.method'
  refine ⟨T.setFrames fs, ?_, .returned (some (.int 1)), hrun, hended, rfl, ⟨_, rfl⟩, hW, hframe⟩
  jvm_step X.here [X.here.top, hx, hb, hdg, hmeth', hr, ret, narrow_b1]
  (try refine ⟨rfl, ?_⟩); (try refine ⟨rfl, ?_⟩)
  first | (intro acts; rw [hret _ acts rfl rfl rfl]) | rw [hret _ _ rfl rfl rfl]
  exact Steps.refl _
/-- what holds at the law's entry: the machine, the code, the tables' words (any of lw_tbl by 'hts w (by decide +kernel)'), the script of L ints xs at the cell b, what the Statement gives of the start (any of its parts by flat_of_before) -/
def lw_At (p : Program) (s : State) (m : MethodId) (meth : Method) (c : Code) (b L : Nat) (xs : Nat → Int32) : Prop :=
  p.tables.exec = Jvm.exec ∧ c.code = code ∧ meth.sig.returnType = ret ∧ c.maxLocals = 4 ∧ s.vm.findClass R_law = some m.cls ∧ (∀ w ∈ lw_tbl, w.before #[Value.ref b] s = true) ∧ va_X b L xs s s.heap ∧ b < s.heap.size ∧ meth.locks = false ∧ (Jvm.Cond.and given_1 narrow_1).before #[Value.ref b] s = true
/-- the law's script: L ints xs at b, a cell that nobody writes -/
def JX (E : JE) (b L : Nat) (xs : Nat → Int32) : Prop := match E with
  | (_, _, _, _, s, _, _, _, _, _, _, _, _, A) => va_X b L xs s s.heap ∧ b < s.heap.size ∧ ¬ A b
def sv (xs : Nat → Int32) (a : Int) : Int := (xs a.toNat).toInt
theorem sv_in (xs : Nat → Int32) (a : Int) : -2147483648 ≤ sv xs a ∧ sv xs a ≤ 2147483647 := by
  have h1 := Int32.le_toInt (xs a.toNat)
  have h2 := Int32.toInt_lt (xs a.toNat)
  rw [sv]; omega
section
variable {E : JE} {l : Launch} {cc : ByteArray} {own : String} {nL : Nat} {rm : Room} {D : va_G} {cI cB : ClassId} {ce sl : Nat} {ws : va_W} {pc : Nat} {lv : List (Nat × Value)} {rest : List Value} {b L : Nat} {xs : Nat → Int32}
theorem j_slen (hX : JX E b L xs) (hF : JF E l cc own nL rm D cI cB) (hdg : decode cc pc = .ok (.arraylength, 1)) (k : J E ce sl ws (pc + 1) lv (iv (L : Int) :: rest)) : J E ce sl ws pc lv (.ref b :: rest) := by
  obtain ⟨p, l', e, R, s, m, args, below, meth, c, nL', Q, D', A⟩ := E
  obtain ⟨hx, hb, rfl, hml, rfl, rfl, rfl, hown, hts, hK, hA, hlk⟩ := hF
  obtain ⟨x1, x2, x3⟩ := hX
  intro H locs ls hP hD hS hl
  refine va_slen hx hb x1 x2 x3 hS hdg ?_
  rw [← Int32.ofInt_eq_ofNat]
  exact k H locs ls hP hD hS hl
theorem j_sld (hX : JX E b L xs) (hF : JF E l cc own nL rm D cI cB) {a : Int} (hdg : decode cc pc = .ok (.iaload, 1)) (ha : 0 ≤ a ∧ a < (L : Int)) (hL : L ≤ 100000) (k : J E ce sl ws (pc + 1) lv (iv (sv xs a) :: rest)) : J E ce sl ws pc lv (iv a :: .ref b :: rest) := by
  obtain ⟨p, l', e, R, s, m, args, below, meth, c, nL', Q, D', A⟩ := E
  obtain ⟨hx, hb, rfl, hml, rfl, rfl, rfl, hown, hts, hK, hA, hlk⟩ := hF
  obtain ⟨x1, x2, x3⟩ := hX
  intro H locs ls hP hD hS hl
  obtain ⟨h1, h2⟩ := i_in ha hL
  refine va_sld hx hb x1 x2 x3 hS h1 hdg ?_
  rw [h2, ← Int32.ofInt_toInt (xs a.toNat)]
  exact k H locs ls hP hD hS hl
theorem j_tabIn {a dflt lo hi off : Int} {offs : Array Int} {len : Nat} (tgt : Nat) (hF : JF E l cc own nL rm D cI cB) (hdg : decode cc pc = .ok (.tableswitch dflt lo hi offs, len)) (ha : -2147483648 ≤ a ∧ a ≤ 2147483647) (h1 : lo ≤ a) (h2 : a ≤ hi) (ho : offs[(a - lo).toNat]? = some off) (ht : (pc : Int) + off = (tgt : Int)) (k : J E ce sl ws tgt lv rest) : J E ce sl ws pc lv (iv a :: rest) := by
  obtain ⟨p, l', e, R, s, m, args, below, meth, c, nL', Q, D', A⟩ := E
  obtain ⟨hx, hb, -⟩ := hF
  intro H locs ls hP hD hS hl
  have e := i_toInt ha
  exact lv_tableIn hx hb hdg (by rw [e]; omega) (by rw [e]; omega) (by rw [e]; exact ho) ht (k H locs ls hP hD hS hl)
theorem j_tabOut {a dflt lo hi : Int} {offs : Array Int} {len : Nat} (tgt : Nat) (hF : JF E l cc own nL rm D cI cB) (hdg : decode cc pc = .ok (.tableswitch dflt lo hi offs, len)) (ha : -2147483648 ≤ a ∧ a ≤ 2147483647) (h : a < lo ∨ hi < a) (ht : (pc : Int) + dflt = (tgt : Int)) (k : J E ce sl ws tgt lv rest) : J E ce sl ws pc lv (iv a :: rest) := by
  obtain ⟨p, l', e, R, s, m, args, below, meth, c, nL', Q, D', A⟩ := E
  obtain ⟨hx, hb, -⟩ := hF
  intro H locs ls hP hD hS hl
  have e := i_toInt ha
  exact lv_tableOut hx hb hdg (by rw [e]; exact h) ht (k H locs ls hP hD hS hl)
/-- both answers are the same -/
theorem j_same (hF : JF E l cc own nL rm D cI cB) {a off : Int} (tgt : Nat) (hdg : decode cc pc = .ok (.if_icmp .eq off, 3)) (ht : (pc : Int) + off = (tgt : Int)) (k : J E ce sl ws tgt lv rest) : J E ce sl ws pc lv (iv a :: iv a :: rest) := by
  obtain ⟨p, l', e, R, s, m, args, below, meth, c, nL', Q, D', A⟩ := E
  obtain ⟨hx, hb, -⟩ := hF
  intro H locs ls hP hD hS hl
  exact lv_icmp_eq hx hb hdg ht (fun _ => k H locs ls hP hD hS hl) (fun q => absurd rfl q)
end
section
variable {E : JE} {l : Launch} {cc : ByteArray} {own : String} {nL : Nat} {rm : Room} {D : va_G} {cI cB : ClassId} {ce sl : Nat} {pc : Nat} {lv : List (Nat × Value)} {h0 h1 : Nat} {ad bd : Nat → Nat} {y : MethodName} {cy : ByteArray} {Ly fr lo : Nat} {ret : Option FieldType} {As : List Value} {st pm : PS} {C : String} {idx n : Nat} {stk : List Value}
/-- the law calls the class: the other object stays -/
theorem j_callX {post : Int → PS → Prop} (hF : JF E l cc own nL rm D cI cB) (hM : MI l D cI cB (xw h0 ad cI cB) y cy Ly ret fr lo (.ref h0 :: As) st post) (hG : GoodIn lw_all (wsV own idx C y (ws_ y cy Ly ret)))
    (hd : y.cls = C ∧ y.cls ≠ "java/lang/invoke/MethodHandle" ∧ y.cls ≠ "java/lang/invoke/VarHandle" ∧ (parseMethodDescriptor y.desc).map (fun d => d.parameters.length) = some n) (hR : fr + 1 ≤ rm.frames ∧ 8 + (Ly + 11) + lo ≤ rm.locals) (hf : ce ≤ rm.cells ∧ sl ≤ rm.slots) (hn : As.length = n)
    (hC : C = RX0) (rest : List Value) (hstk : stk = As.reverse ++ .ref h0 :: rest) (hrest : (rest.map fun v => v.category).sum ≤ 8) (hdg : decode cc pc = .ok (.invokevirtual idx, 3))
    (k : ∀ (a : Int) (u : PS), post a u → J E ce sl (xw h0 ad cI cB u ++ mw h1 bd cI cB pm) (pc + 3) lv (iv a :: rest)) : J E ce sl (xw h0 ad cI cB st ++ mw h1 bd cI cB pm) pc lv stk := by
  obtain ⟨p, l', e, R, s, m, args, below, meth, c, nL', Q, D', A⟩ := E
  obtain ⟨hx, hb, rfl, hml, rfl, rfl, rfl, hown, hts, hK, hA, hlk⟩ := hF
  intro H locs ls hP hD hS hl
  subst hC
  have hPc := hP.sub (ws' := xw h0 ad cI cB st) [0, 1, 2, 3, 4, 5, 6, 7, 8, 9, 10, 11, 12, 13, 14] rfl
  have hDc := hD.sub (ws' := xw h0 ad cI cB st) [0, 1, 2, 3, 4, 5, 6, 7, 8, 9, 10, 11, 12, 13, 14] (by decide) rfl
  have hFc := va_free (wc := xw h0 ad cI cB st) hD hS hA [0, 1, 2, 3, 4, 5, 6, 7, 8, 9, 10, 11, 12, 13, 14] rfl
  refine va_calli (va_runV (As := As) (rest := rest) ⟨hx, hb, hml, hown, hts⟩ (hM H.size) (cwV n hts hG rfl rfl rfl hd hR) ⟨fun a U g mk q => by obtain ⟨q0, q1, qP, qK, qD⟩ := q; exact ⟨q0, q1, qP, va_K.moved (u := U) (U := U.calling g mk a) (Vm.Alike.refl U.vm) qK, qD⟩, va_recv hK hPc (ci := 0) (q0 := 0) rfl rfl, fun U hU hW => ⟨rfl, by rw [hU], by rw [hU]; exact hPc, va_K.moved hW.alike hK, hDc.weaken (fun _ _ _ _ => trivial)⟩⟩ rfl hn hl.1 hstk (lv_room hrest) hdg hf) hS (fun q _ h => hFc q h) hFc (fun r u t H1 locs1 ht hvm hw1 hB hz1 hk1 hS1 => ?_)
  obtain ⟨a, rfl, hpost⟩ := hw1
  obtain ⟨hP1, hK1, hD1⟩ := hB
  rw [ht] at hP1
  obtain ⟨hP2, hD2⟩ := va_join (wr := mw h1 bd cI cB pm) (w1 := xw h0 ad cI cB u) hP hD [0, 1, 2, 3, 4, 5, 6, 7, 8, 9, 10, 11, 12, 13, 14] [15, 16, 17, 18, 19] rfl rfl (by decide) (by decide) hk1 hFc hP1 hD1
  exact k a u hpost H1 locs1 ls (hP2.sub [5, 6, 7, 8, 9, 10, 11, 12, 13, 14, 15, 16, 17, 18, 19, 0, 1, 2, 3, 4] rfl) (hD2.sub [5, 6, 7, 8, 9, 10, 11, 12, 13, 14, 15, 16, 17, 18, 19, 0, 1, 2, 3, 4] (by decide) rfl) hS1 hl
/-- the law calls the model: the other object stays -/
theorem j_callM {post : Int → PS → Prop} (hF : JF E l cc own nL rm D cI cB) (hM : MI l D cI cB (mw h1 bd cI cB) y cy Ly ret fr lo (.ref h1 :: As) pm post) (hG : GoodIn lw_all (wsV own idx C y (ws_ y cy Ly ret)))
    (hd : y.cls = C ∧ y.cls ≠ "java/lang/invoke/MethodHandle" ∧ y.cls ≠ "java/lang/invoke/VarHandle" ∧ (parseMethodDescriptor y.desc).map (fun d => d.parameters.length) = some n) (hR : fr + 1 ≤ rm.frames ∧ 8 + (Ly + 11) + lo ≤ rm.locals) (hf : ce ≤ rm.cells ∧ sl ≤ rm.slots) (hn : As.length = n)
    (hC : C = RX1) (rest : List Value) (hstk : stk = As.reverse ++ .ref h1 :: rest) (hrest : (rest.map fun v => v.category).sum ≤ 8) (hdg : decode cc pc = .ok (.invokevirtual idx, 3))
    (k : ∀ (a : Int) (u : PS), post a u → J E ce sl (xw h0 ad cI cB st ++ mw h1 bd cI cB u) (pc + 3) lv (iv a :: rest)) : J E ce sl (xw h0 ad cI cB st ++ mw h1 bd cI cB pm) pc lv stk := by
  obtain ⟨p, l', e, R, s, m, args, below, meth, c, nL', Q, D', A⟩ := E
  obtain ⟨hx, hb, rfl, hml, rfl, rfl, rfl, hown, hts, hK, hA, hlk⟩ := hF
  intro H locs ls hP hD hS hl
  subst hC
  have hPc := hP.sub (ws' := mw h1 bd cI cB pm) [15, 16, 17, 18, 19] rfl
  have hDc := hD.sub (ws' := mw h1 bd cI cB pm) [15, 16, 17, 18, 19] (by decide) rfl
  have hFc := va_free (wc := mw h1 bd cI cB pm) hD hS hA [15, 16, 17, 18, 19] rfl
  refine va_calli (va_runV (As := As) (rest := rest) ⟨hx, hb, hml, hown, hts⟩ (hM H.size) (cwV n hts hG rfl rfl rfl hd hR) ⟨fun a U g mk q => by obtain ⟨q0, q1, qP, qK, qD⟩ := q; exact ⟨q0, q1, qP, va_K.moved (u := U) (U := U.calling g mk a) (Vm.Alike.refl U.vm) qK, qD⟩, va_recv hK hPc (ci := 1) (q0 := 0) rfl rfl, fun U hU hW => ⟨rfl, by rw [hU], by rw [hU]; exact hPc, va_K.moved hW.alike hK, hDc.weaken (fun _ _ _ _ => trivial)⟩⟩ rfl hn hl.1 hstk (lv_room hrest) hdg hf) hS (fun q _ h => hFc q h) hFc (fun r u t H1 locs1 ht hvm hw1 hB hz1 hk1 hS1 => ?_)
  obtain ⟨a, rfl, hpost⟩ := hw1
  obtain ⟨hP1, hK1, hD1⟩ := hB
  rw [ht] at hP1
  obtain ⟨hP2, hD2⟩ := va_join (wr := xw h0 ad cI cB st) (w1 := mw h1 bd cI cB u) hP hD [15, 16, 17, 18, 19] [0, 1, 2, 3, 4, 5, 6, 7, 8, 9, 10, 11, 12, 13, 14] rfl rfl (by decide) (by decide) hk1 hFc hP1 hD1
  exact k a u hpost H1 locs1 ls hP2 hD2 hS1 hl
end
end
section
/-! PURE WORDS of the class NodeTableFiles (state st: arrays 0 word, 1 nodeFile, 2 nodeSize, 3 nodeWord, 4 markOf, 5 chainNext, 6 packBegin, 7 packEnd, 8 packNode, 9 packChain, 10 nodeNow, 11 nodeLasting, 12 young, 13 needed; 14: 0 chain, 1 chained, 2 number, 3 segment) -/
def fr (ks : List Nat) (st u : PS) : Prop := ∀ k : Nat, k ∉ ks → u k = st k
theorem fr.rf {ks : List Nat} {st : PS} : fr ks st st := fun _ _ => rfl
theorem fr.tr {ks : List Nat} {st u v : PS} (h : fr ks st u) (g : fr ks u v) : fr ks st v := fun k hk => (g k hk).trans (h k hk)
theorem fr.sw {ks : List Nat} {st u : PS} {k : Nat} {a b : Int} (h : fr ks st u) (hk : k ∈ ks) : fr ks st (sw u k a b) := fun k' h' => by
  have hne : k' ≠ k := fun e => h' (by rw [e]; exact hk)
  rw [sw_ne hne]; exact h k' h'
/-- a node block with its words' blocks in range -/
def okN (st : PS) (n : Int) : Prop := 0 ≤ n ∧ n < 128 ∧ 0 ≤ st 2 n ∧ st 2 n ≤ 4 ∧ ∀ i : Int, 0 ≤ i → i < st 2 n → 0 ≤ st 3 (n * 4 + i) ∧ st 3 (n * 4 + i) < 128
def okM (st : PS) (n : Int) : Prop := n = -1 ∨ okN st n
/-- the blocks of a node: its own and its words' -/
def inN (st : PS) (n b : Int) : Prop := n ≠ -1 ∧ (b = n ∨ ∃ i : Int, 0 ≤ i ∧ i < st 2 n ∧ b = st 3 (n * 4 + i))
theorem okN_fr {st u : PS} {n : Int} (h2 : u 2 = st 2) (h3 : u 3 = st 3) : okN u n = okN st n := by simp only [okN, h2, h3]
theorem okM_fr {st u : PS} {n : Int} (h2 : u 2 = st 2) (h3 : u 3 = st 3) : okM u n = okM st n := by simp only [okM, okN_fr h2 h3]
theorem inN_fr {st u : PS} {n b : Int} (h2 : u 2 = st 2) (h3 : u 3 = st 3) : inN u n b = inN st n b := by simp only [inN, h2, h3]
theorem okM.rg {st : PS} {n : Int} (h : okM st n) : -1 ≤ n ∧ n < 128 := by
  rcases h with h | h
  · omega
  · have := h.1; have := h.2.1; omega
/-- what need(node) does -/
def needP (st : PS) (node : Int) (u : PS) : Prop := fr [13] st u ∧ ∀ b : Int, (inN st node b → u 13 b = 1) ∧ (¬ inN st node b → u 13 b = st 13 b)
def needI (st : PS) (node i : Int) (u : PS) : Prop := fr [13] st u ∧ ∀ b : Int, ((b = node ∨ ∃ j : Int, 0 ≤ j ∧ j < i ∧ b = st 3 (node * 4 + j)) → u 13 b = 1) ∧ (¬ (b = node ∨ ∃ j : Int, 0 ≤ j ∧ j < i ∧ b = st 3 (node * 4 + j)) → u 13 b = st 13 b)
theorem needI_0 (st : PS) (node : Int) : needI st node 0 (sw st 13 node 1) := by
  refine ⟨fr.rf.sw (by decide), fun b => ⟨fun h => ?_, fun h => ?_⟩⟩
  · rcases h with rfl | ⟨j, h1, h2, -⟩
    · exact sw_eq ..
    · omega
  · exact sw_na (fun e => h (Or.inl e))
theorem needI_s {st : PS} {node i : Int} {u : PS} (h : needI st node i u) (hi : 0 ≤ i) : needI st node (i + 1) (sw u 13 (st 3 (node * 4 + i)) 1) := by
  refine ⟨h.1.sw (by decide), fun b => ?_⟩
  by_cases hb : b = st 3 (node * 4 + i)
  · subst hb
    refine ⟨fun _ => sw_eq .., fun hn => absurd (Or.inr ⟨i, hi, by omega, rfl⟩) hn⟩
  · rw [sw_na hb]
    refine ⟨fun hn => (h.2 b).1 ?_, fun hn => (h.2 b).2 ?_⟩
    · rcases hn with e | ⟨j, h1, h2, h3⟩
      · exact Or.inl e
      · refine Or.inr ⟨j, h1, ?_, h3⟩
        rcases Int.lt_or_eq_of_le (Int.le_of_lt_add_one h2) with h4 | h4
        · exact h4
        · exact absurd (h4 ▸ h3) hb
    · rintro (e | ⟨j, h1, h2, h3⟩)
      · exact hn (Or.inl e)
      · exact hn (Or.inr ⟨j, h1, by omega, h3⟩)
theorem needI_e {st : PS} {node : Int} {u : PS} (h : needI st node (st 2 node) u) (hn : node ≠ -1) : needP st node u :=
  ⟨h.1, fun b => ⟨fun hb => (h.2 b).1 hb.2, fun hb => (h.2 b).2 (fun z => hb ⟨hn, z⟩)⟩⟩
theorem needP_no (st : PS) : needP st (-1) st := ⟨fr.rf, fun _ => ⟨fun h => absurd rfl h.1, fun _ => rfl⟩⟩
def bit (u : PS) : Prop := ∀ b : Int, 0 ≤ b → b < 128 → u 13 b = 0 ∨ u 13 b = 1
/-- at most n of the blocks are marked -/
def cov (n : Int) (u : PS) : Prop := ∃ L : List Int, (L.length : Int) ≤ n ∧ ∀ b : Int, 0 ≤ b → b < 128 → u 13 b ≠ 0 → b ∈ L
def mk1 (st : PS) (m : Int) (u : PS) : Prop := ∀ b : Int, inN st m b → u 13 b = 1
theorem needP.bit {st u : PS} {node : Int} (h : needP st node u) (hb : bit st) : bit u := fun b h1 h2 => by
  by_cases hi : inN st node b
  · exact Or.inr ((h.2 b).1 hi)
  · rw [(h.2 b).2 hi]; exact hb b h1 h2
theorem needP.cov {st u : PS} {node n : Int} (h : needP st node u) (hok : okM st node) (hc : cov n st) : cov (n + 5) u := by
  obtain ⟨L, h1, h2⟩ := hc
  refine ⟨node :: st 3 (node * 4 + 0) :: st 3 (node * 4 + 1) :: st 3 (node * 4 + 2) :: st 3 (node * 4 + 3) :: L, by simp; omega, fun b hb0 hb1 hb => ?_⟩
  by_cases hi : inN st node b
  · obtain ⟨hn, hi⟩ := hi
    rcases hi with rfl | ⟨i, i1, i2, rfl⟩
    · exact List.mem_cons_self
    · have h4 : st 2 node ≤ 4 := (hok.resolve_left hn).2.2.2.1
      rcases (show i = 0 ∨ i = 1 ∨ i = 2 ∨ i = 3 by omega) with rfl | rfl | rfl | rfl <;> simp
  · rw [(h.2 b).2 hi] at hb
    simp [h2 b hb0 hb1 hb]
theorem needP.keep {st u s0 : PS} {node m : Int} (h : needP st node u) (hm : mk1 s0 m st) : mk1 s0 m u := fun b hb => by
  by_cases hi : inN st node b
  · exact (h.2 b).1 hi
  · rw [(h.2 b).2 hi]; exact hm b hb
/-- fewer than 128 numbers leave one of the 128 out -/
theorem out_of (n : Nat) : ∀ L : List Int, L.length < n → ∃ b : Int, 0 ≤ b ∧ b < n ∧ b ∉ L := by
  induction n with
  | zero => intro L h; omega
  | succ n ih =>
    intro L h
    by_cases hm : (n : Int) ∈ L
    · obtain ⟨b, h1, h2, h3⟩ := ih (L.erase (n : Int)) (by rw [List.length_erase_of_mem hm]; have := List.length_pos_of_mem hm; omega)
      refine ⟨b, h1, by omega, fun hb => h3 ?_⟩
      exact (List.mem_erase_of_ne (by omega)).mpr hb
    · exact ⟨n, by omega, by omega, hm⟩
theorem cov.free {n : Int} {u : PS} (h : cov n u) (hn : n < 128) : ∃ b : Int, 0 ≤ b ∧ b < 128 ∧ u 13 b = 0 := by
  obtain ⟨L, h1, h2⟩ := h
  obtain ⟨b, b1, b2, b3⟩ := out_of 128 L (by omega)
  refine ⟨b, b1, b2, ?_⟩
  by_cases hb : u 13 b = 0
  · exact hb
  · exact absurd (h2 b b1 b2 hb) b3
def par (st : PS) : Int := st 14 2 % 2
def pk (st : PS) (f : Int) : Int := st 8 (par st * 6 + f)
/-- the chain's blocks, from the present pack on -/
def chn (st : PS) : Nat → Int
  | 0 => st 9 (par st)
  | i + 1 => st 5 (chn st i)
/-- what the survey asks -/
def Sv (st : PS) : Prop := (∀ f : Int, 0 ≤ f → f < 6 → okM st (st 10 f) ∧ okM st (st 11 f) ∧ okM st (pk st f)) ∧ (-1 ≤ st 14 0 ∧ st 14 0 < 128) ∧ (0 ≤ st 14 1 ∧ st 14 1 ≤ 20) ∧ (0 ≤ st 14 2 ∧ st 14 2 ≤ 1000) ∧ (0 ≤ st 14 3 ∧ st 14 3 < 16) ∧ ∀ i : Nat, (i : Int) < st 14 1 → 0 ≤ chn st i ∧ chn st i < 128
/-- the blocks that are needed -/
def Nd (st : PS) (b : Int) : Prop := (∃ f : Int, 0 ≤ f ∧ f < 6 ∧ (inN st (st 10 f) b ∨ inN st (st 11 f) b ∨ inN st (pk st f) b)) ∨ (st 14 0 ≠ -1 ∧ b = st 14 0) ∨ ∃ i : Nat, (i : Int) < st 14 1 ∧ b = chn st i
/-- what the survey does -/
def surP (st u : PS) : Prop := fr [13] st u ∧ bit u ∧ (∀ b : Int, Nd st b → u 13 b = 1) ∧ ∃ b : Int, 0 ≤ b ∧ b < 128 ∧ u 13 b = 0
/-- the survey, behind the files below f -/
def surI (st : PS) (f n : Int) (u : PS) : Prop := fr [13] st u ∧ bit u ∧ cov n u ∧ ∀ g : Int, 0 ≤ g → g < f → mk1 st (st 10 g) u ∧ mk1 st (st 11 g) u ∧ mk1 st (pk st g) u
theorem surI_0 {st u : PS} (h : fr [13] st u) (hz : ∀ b : Int, 0 ≤ b → b < 128 → u 13 b = 0) : surI st 0 0 u :=
  ⟨h, fun b h1 h2 => Or.inl (hz b h1 h2), ⟨[], by simp, fun b h1 h2 h3 => absurd (hz b h1 h2) h3⟩, fun g h1 h2 => by omega⟩
theorem surI_s {st u u1 u2 u3 : PS} {f n : Int} (h : surI st f n u) (hs : Sv st) (h0 : 0 ≤ f) (h6 : f < 6) (p1 : needP u (st 10 f) u1) (p2 : needP u1 (st 11 f) u2) (p3 : needP u2 (pk st f) u3) : surI st (f + 1) (n + 5 + 5 + 5) u3 := by
  obtain ⟨f0, b0, c0, k0⟩ := h
  obtain ⟨o1, o2, o3⟩ := hs.1 f h0 h6
  have f1 : fr [13] st u1 := f0.tr p1.1
  have f2 : fr [13] st u2 := f1.tr p2.1
  have f3 : fr [13] st u3 := f2.tr p3.1
  have m1 : mk1 st (st 10 f) u1 := fun b hb => (p1.2 b).1 (by rw [inN_fr (f0 2 (by decide)) (f0 3 (by decide))]; exact hb)
  have m2 : mk1 st (st 11 f) u2 := fun b hb => (p2.2 b).1 (by rw [inN_fr (f1 2 (by decide)) (f1 3 (by decide))]; exact hb)
  have m3 : mk1 st (pk st f) u3 := fun b hb => (p3.2 b).1 (by rw [inN_fr (f2 2 (by decide)) (f2 3 (by decide))]; exact hb)
  refine ⟨f3, p3.bit (p2.bit (p1.bit b0)), p3.cov (by rw [okM_fr (f2 2 (by decide)) (f2 3 (by decide))]; exact o3) (p2.cov (by rw [okM_fr (f1 2 (by decide)) (f1 3 (by decide))]; exact o2) (p1.cov (by rw [okM_fr (f0 2 (by decide)) (f0 3 (by decide))]; exact o1) c0)), fun g h1 h2 => ?_⟩
  by_cases hg : g = f
  · subst hg
    exact ⟨p3.keep (p2.keep m1), p3.keep m2, m3⟩
  · obtain ⟨q1, q2, q3⟩ := k0 g h1 (by omega)
    exact ⟨p3.keep (p2.keep (p1.keep q1)), p3.keep (p2.keep (p1.keep q2)), p3.keep (p2.keep (p1.keep q3))⟩
theorem sw13_bit {u : PS} {a : Int} (h : bit u) : bit (sw u 13 a 1) := fun b h1 h2 => by
  by_cases hb : b = a
  · subst hb; exact Or.inr (sw_eq ..)
  · rw [sw_na hb]; exact h b h1 h2
theorem sw13_cov {u : PS} {a n : Int} (h : cov n u) : cov (n + 1) (sw u 13 a 1) := by
  obtain ⟨L, h1, h2⟩ := h
  refine ⟨a :: L, by simp; omega, fun b b1 b2 b3 => ?_⟩
  by_cases hb : b = a
  · subst hb; exact List.mem_cons_self
  · rw [sw_na hb] at b3; exact List.mem_cons_of_mem _ (h2 b b1 b2 b3)
theorem sw13_1 {u : PS} {a b : Int} (h : u 13 b = 1) : sw u 13 a 1 13 b = 1 := by
  by_cases hb : b = a
  · subst hb; exact sw_eq ..
  · rw [sw_na hb]; exact h
/-- the survey, in the chain's blocks below i -/
def surC (st : PS) (i : Nat) (u : PS) : Prop := fr [13] st u ∧ bit u ∧ cov (91 + i) u ∧ (∀ g : Int, 0 ≤ g → g < 6 → mk1 st (st 10 g) u ∧ mk1 st (st 11 g) u ∧ mk1 st (pk st g) u) ∧ (st 14 0 ≠ -1 → u 13 (st 14 0) = 1) ∧ ∀ j : Nat, j < i → u 13 (chn st j) = 1
theorem surC_0 {st u : PS} (h : surI st 6 90 u) (hc : st 14 0 = -1) : surC st 0 u := by
  obtain ⟨f0, b0, ⟨L, l1, l2⟩, k0⟩ := h
  exact ⟨f0, b0, ⟨L, by omega, l2⟩, k0, fun h => absurd hc h, fun j hj => absurd hj (Nat.not_lt_zero j)⟩
theorem surC_1 {st u : PS} (h : surI st 6 90 u) : surC st 0 (sw u 13 (st 14 0) 1) := by
  obtain ⟨f0, b0, c0, k0⟩ := h
  refine ⟨f0.sw (by decide), sw13_bit b0, sw13_cov c0, fun g h1 h2 => ?_, fun _ => sw_eq .., fun j hj => absurd hj (Nat.not_lt_zero j)⟩
  obtain ⟨q1, q2, q3⟩ := k0 g h1 h2
  exact ⟨fun b hb => sw13_1 (q1 b hb), fun b hb => sw13_1 (q2 b hb), fun b hb => sw13_1 (q3 b hb)⟩
theorem surC_s {st u : PS} {i : Nat} (h : surC st i u) : surC st (i + 1) (sw u 13 (chn st i) 1) := by
  obtain ⟨f0, b0, c0, k0, k1, k2⟩ := h
  refine ⟨f0.sw (by decide), sw13_bit b0, by have := sw13_cov (a := chn st i) c0; rwa [show (91 : Int) + ((i + 1 : Nat) : Int) = 91 + i + 1 by omega], fun g h1 h2 => ?_, fun hc => sw13_1 (k1 hc), fun j hj => ?_⟩
  · obtain ⟨q1, q2, q3⟩ := k0 g h1 h2
    exact ⟨fun b hb => sw13_1 (q1 b hb), fun b hb => sw13_1 (q2 b hb), fun b hb => sw13_1 (q3 b hb)⟩
  · by_cases e : j = i
    · subst e; exact sw_eq ..
    · exact sw13_1 (k2 j (by omega))
theorem surC_e {st u : PS} {i : Nat} (h : surC st i u) (hi : (i : Int) = st 14 1) (hs : Sv st) : surP st u := by
  obtain ⟨f0, b0, c0, k0, k1, k2⟩ := h
  refine ⟨f0, b0, fun b hb => ?_, c0.free (by have := hs.2.2.1.2; omega)⟩
  rcases hb with ⟨f, h1, h2, hb⟩ | ⟨h1, rfl⟩ | ⟨j, h1, rfl⟩
  · obtain ⟨q1, q2, q3⟩ := k0 f h1 h2
    rcases hb with hb | hb | hb
    · exact q1 b hb
    · exact q2 b hb
    · exact q3 b hb
  · exact k1 h1
  · exact k2 j (by omega)
/-- what freeIn(s) answers -/
def freeP (st : PS) (s a : Int) : Prop := 0 ≤ a ∧ a ≤ 8 ∧ (a = 0 → ∀ b : Int, s * 8 ≤ b → b < s * 8 + 8 → st 13 b = 1) ∧ (a ≠ 0 → ∃ b : Int, s * 8 ≤ b ∧ b < s * 8 + 8 ∧ st 13 b = 0)
def freeI (st : PS) (s b n : Int) : Prop := 0 ≤ n ∧ n ≤ b - s * 8 ∧ (n = 0 → ∀ c : Int, s * 8 ≤ c → c < b → st 13 c = 1) ∧ (n ≠ 0 → ∃ c : Int, s * 8 ≤ c ∧ c < b ∧ st 13 c = 0)
theorem freeI_s0 {st : PS} {s b n : Int} (h : freeI st s b n) (h0 : s * 8 ≤ b) (hb : st 13 b = 0) : freeI st s (b + 1) (n + 1) := by
  obtain ⟨h1, h2, h3, h4⟩ := h
  exact ⟨by omega, by omega, fun e => by omega, fun _ => ⟨b, h0, by omega, hb⟩⟩
theorem freeI_s1 {st : PS} {s b n : Int} (h : freeI st s b n) (hb : st 13 b = 1) : freeI st s (b + 1) n := by
  obtain ⟨h1, h2, h3, h4⟩ := h
  refine ⟨h1, by omega, fun e c c1 c2 => ?_, fun e => ?_⟩
  · by_cases hc : c = b
    · subst hc; exact hb
    · exact h3 e c c1 (by omega)
  · obtain ⟨c, c1, c2, c3⟩ := h4 e
    exact ⟨c, c1, by omega, c3⟩
/-- what fresh() does -/
def freP (st : PS) (a : Int) (u : PS) : Prop := (0 ≤ a ∧ a < 128) ∧ ¬ Nd st a ∧ fr [4, 13, 14] st u ∧ (∀ j : Int, j ≠ 3 → u 14 j = st 14 j) ∧ (0 ≤ u 14 3 ∧ u 14 3 < 16) ∧ u 4 = fun b => if b = a then -1 else st 4 b
end
section
set_option maxRecDepth 100000
set_option maxHeartbeats 4000000 in
/-- bad(f) -/
theorem mx_bad (l : Launch) (D : va_G) (cI cB : ClassId) (h0 : Nat) (ad : Nat → Nat) (st : PS) (f : Int) (hf : -2147483648 ≤ f ∧ f ≤ 2147483647) : MI l D cI cB (xw h0 ad cI cB) yX0_bad cX0_bad 2 (some .boolean) 0 0 [.ref h0, iv f] st (fun a u => u = st ∧ ((0 ≤ f ∧ f < 6 ∧ a = 0) ∨ (¬ (0 ≤ f ∧ f < 6) ∧ a = 1))) := by
  refine MI_ofZ (by decide +kernel) (Nat.le_of_ble_eq_true rfl) (fun E hF hret => ?_)
  have hF : JF E l cX0_bad RX0 2 (rmo 0 0) D cI cB := hF
  show J E 0 0 (xw h0 ad cI cB st) 0 [(0, .ref h0), (1, iv f)] []
  refine j_iload_n hF dX0_bad_0 rfl 1 rfl ?_
  refine j_if_lt hF 10 dX0_bad_1 (by decide) (by omega) (fun c1 => ?_) (fun c1 => ?_)
  · refine j_iconst hF dX0_bad_10 ?_
    refine j_goto hF 15 dX0_bad_11 (by decide) ?_
    exact hret 1 st _ _ dX0_bad_15 (Or.inr rfl) ⟨rfl, Or.inr ⟨by omega, rfl⟩⟩
  · refine j_iload_n hF dX0_bad_4 rfl 1 rfl ?_
    refine j_bipush hF dX0_bad_5 (by decide) ?_
    refine j_icmp_lt hF 14 dX0_bad_7 (by decide) (by omega) (by omega) (fun c2 => ?_) (fun c2 => ?_)
    · refine j_iconst hF dX0_bad_14 ?_
      exact hret 0 st _ _ dX0_bad_15 (Or.inl rfl) ⟨rfl, Or.inl ⟨by omega, by omega, rfl⟩⟩
    · refine j_iconst hF dX0_bad_10 ?_
      refine j_goto hF 15 dX0_bad_11 (by decide) ?_
      exact hret 1 st _ _ dX0_bad_15 (Or.inr rfl) ⟨rfl, Or.inr ⟨by omega, rfl⟩⟩
set_option maxHeartbeats 4000000 in
/-- need(node): its blocks are marked -/
theorem mx_need (l : Launch) (D : va_G) (cI cB : ClassId) (h0 : Nat) (ad : Nat → Nat) (st : PS) (node : Int) (hn : okM st node) : MV l D cI cB (xw h0 ad cI cB) yX0_need cX0_need 3 0 0 [.ref h0, iv node] st (needP st node) := by
  refine MV_of (by decide +kernel) (Nat.le_of_ble_eq_true rfl) (fun E hF hret => ?_)
  have hF : JF E l cX0_need RX0 3 (rmo 0 0) D cI cB := hF
  show J E 0 0 (xw h0 ad cI cB st) 0 [(0, .ref h0), (1, iv node)] []
  have hr := hn.rg
  refine j_iload_n hF dX0_need_0 rfl 1 rfl ?_
  refine j_iconst hF dX0_need_1 ?_
  refine j_icmp_ne hF 6 dX0_need_2 (by decide) (by omega) (by omega) (fun c1 => ?_) (fun c1 => ?_)
  · obtain ⟨k1, k2, k3, k4, k5⟩ := hn.resolve_left c1
    have loop : ∀ (n : Nat) (i : Int) (u : PS), st 2 node - i < (n : Int) → 0 ≤ i → i ≤ st 2 node → needI st node i u → J E 0 0 (xw h0 ad cI cB u) 15 [(0, .ref h0), (1, iv node), (2, iv i)] [] := by
      intro n
      induction n with
      | zero => intro i u h1 h2 h3 h4; omega
      | succ n ih =>
        intro i u hm i0 i1 hI
        have e2 : u 2 = st 2 := hI.1 2 (by decide)
        have e3 : u 3 = st 3 := hI.1 3 (by decide)
        refine j_iload_n hF dX0_need_15 rfl 2 rfl ?_
        refine j_aload_n hF dX0_need_16 rfl 0 rfl ?_
        refine xg2 hF dX0_need_17 ?_
        refine j_iload_n hF dX0_need_20 rfl 1 rfl ?_
        refine xl2 hF dX0_need_21 (by omega) ?_
        refine j_top (b := st 2 node) (by rw [e2]) ?_
        refine j_icmp_ge hF 47 dX0_need_22 (by decide) (by omega) (by omega) (fun c2 => ?_) (fun c2 => ?_)
        · have e : i = st 2 node := by omega
          subst e
          exact hret u _ _ dX0_need_47 (needI_e hI c1)
        · obtain ⟨k6, k7⟩ := k5 i i0 (by omega)
          refine j_aload_n hF dX0_need_25 rfl 0 rfl ?_
          refine xg13 hF dX0_need_26 ?_
          refine j_aload_n hF dX0_need_29 rfl 0 rfl ?_
          refine xg3 hF dX0_need_30 ?_
          refine j_iload_n hF dX0_need_33 rfl 1 rfl ?_
          refine j_iconst hF dX0_need_34 ?_
          refine j_imul hF dX0_need_35 ?_
          refine j_iload_n hF dX0_need_36 rfl 2 rfl ?_
          refine j_iadd hF dX0_need_37 ?_
          refine xl3 hF dX0_need_38 (by omega) ?_
          refine j_top (b := st 3 (node * 4 + i)) (by rw [e3]) ?_
          refine j_iconst hF dX0_need_39 ?_
          refine xs13 hF dX0_need_40 (by omega) (Or.inr rfl) ?_
          refine j_iinc hF [(0, .ref h0), (1, iv node), (2, iv (i + 1))] dX0_need_41 2 rfl (by decide) [1, 2, 0] rfl ?_
          refine j_goto hF 15 dX0_need_44 (by decide) ?_
          exact ih (i + 1) _ (by omega) (by omega) (by omega) (needI_s hI i0)
    refine j_aload_n hF dX0_need_6 rfl 0 rfl ?_
    refine xg13 hF dX0_need_7 ?_
    refine j_iload_n hF dX0_need_10 rfl 1 rfl ?_
    refine j_iconst hF dX0_need_11 ?_
    refine xs13 hF dX0_need_12 (by omega) (Or.inr rfl) ?_
    refine j_iconst hF dX0_need_13 ?_
    refine j_istore_n hF [(0, .ref h0), (1, iv node), (2, iv 0)] dX0_need_14 rfl (by decide) [1, 2, 0] rfl ?_
    exact loop 5 0 _ (by omega) (by omega) (by omega) (needI_0 st node)
  · subst c1
    exact hret st _ _ dX0_need_5 (needP_no st)
set_option maxHeartbeats 4000000 in
/-- freeIn(s): how many of the segment's blocks are free -/
theorem mx_freeIn (l : Launch) (D : va_G) (cI cB : ClassId) (h0 : Nat) (ad : Nat → Nat) (st : PS) (s : Int) (h0s : 0 ≤ s) (hs : s < 16) (hbit : bit st) : MI l D cI cB (xw h0 ad cI cB) yX0_freeIn cX0_freeIn 4 (some .int) 0 0 [.ref h0, iv s] st (fun a u => u = st ∧ freeP st s a) := by
  refine MI_of (by decide +kernel) (Nat.le_of_ble_eq_true rfl) (fun E hF hret => ?_)
  have hF : JF E l cX0_freeIn RX0 4 (rmo 0 0) D cI cB := hF
  show J E 0 0 (xw h0 ad cI cB st) 0 [(0, .ref h0), (1, iv s)] []
  have loop : ∀ (m : Nat) (b n : Int), s * 8 + 8 - b < (m : Int) → s * 8 ≤ b → b ≤ s * 8 + 8 → freeI st s b n → J E 0 0 (xw h0 ad cI cB st) 7 [(0, .ref h0), (1, iv s), (2, iv n), (3, iv b)] [] := by
    intro m
    induction m with
    | zero => intro b n h1 h2 h3 h4; omega
    | succ m ih =>
      intro b n hm b0 b1 hI
      have hn0 := hI.1
      have hn1 := hI.2.1
      refine j_iload_n hF dX0_freeIn_7 rfl 3 rfl ?_
      refine j_iload_n hF dX0_freeIn_8 rfl 1 rfl ?_
      refine j_bipush hF dX0_freeIn_9 (by decide) ?_
      refine j_imul hF dX0_freeIn_11 ?_
      refine j_bipush hF dX0_freeIn_12 (by decide) ?_
      refine j_iadd hF dX0_freeIn_14 ?_
      refine j_icmp_ge hF 36 dX0_freeIn_15 (by decide) (by omega) (by omega) (fun c1 => ?_) (fun c1 => ?_)
      · refine j_iload_n hF dX0_freeIn_36 rfl 2 rfl ?_
        have e : b = s * 8 + 8 := by omega
        subst e
        exact hret n st _ _ dX0_freeIn_37 ⟨rfl, hI.1, by omega, hI.2.2.1, hI.2.2.2⟩
      · have hz := hbit b (by omega) (by omega)
        refine j_aload_n hF dX0_freeIn_18 rfl 0 rfl ?_
        refine xg13 hF dX0_freeIn_19 ?_
        refine j_iload_n hF dX0_freeIn_22 rfl 3 rfl ?_
        refine xl13 hF dX0_freeIn_23 (by omega) ?_
        refine j_if_ne hF 30 dX0_freeIn_24 (by decide) (by omega) (fun c2 => ?_) (fun c2 => ?_)
        · refine j_iinc hF [(0, .ref h0), (1, iv s), (2, iv n), (3, iv (b + 1))] dX0_freeIn_30 3 rfl (by decide) [1, 2, 3, 0] rfl ?_
          refine j_goto hF 7 dX0_freeIn_33 (by decide) ?_
          exact ih (b + 1) n (by omega) (by omega) (by omega) (freeI_s1 hI (by omega))
        · refine j_iinc hF [(0, .ref h0), (1, iv s), (2, iv (n + 1)), (3, iv b)] dX0_freeIn_27 2 rfl (by decide) [1, 2, 0, 3] rfl ?_
          refine j_iinc hF [(0, .ref h0), (1, iv s), (2, iv (n + 1)), (3, iv (b + 1))] dX0_freeIn_30 3 rfl (by decide) [1, 2, 3, 0] rfl ?_
          refine j_goto hF 7 dX0_freeIn_33 (by decide) ?_
          exact ih (b + 1) (n + 1) (by omega) (by omega) (by omega) (freeI_s0 hI (by omega) (by omega))
  refine j_iconst hF dX0_freeIn_0 ?_
  refine j_istore_n hF [(0, .ref h0), (1, iv s), (2, iv 0)] dX0_freeIn_1 rfl (by decide) [1, 2, 0] rfl ?_
  refine j_iload_n hF dX0_freeIn_2 rfl 1 rfl ?_
  refine j_bipush hF dX0_freeIn_3 (by decide) ?_
  refine j_imul hF dX0_freeIn_5 ?_
  refine j_istore_n hF [(0, .ref h0), (1, iv s), (2, iv 0), (3, iv (s * 8))] dX0_freeIn_6 rfl (by decide) [1, 2, 3, 0] rfl ?_
  exact loop 9 (s * 8) 0 (by omega) (by omega) (by omega) ⟨by omega, by omega, fun _ c c1 c2 => by omega, fun h => absurd rfl h⟩
set_option maxHeartbeats 4000000 in
/-- survey(): every needed block is marked, and one is free -/
theorem mx_survey (l : Launch) (D : va_G) (cI cB : ClassId) (h0 : Nat) (ad : Nat → Nat) (st : PS) (hs : Sv st) : MV l D cI cB (xw h0 ad cI cB) yX0_survey cX0_survey 3 1 22 [.ref h0] st (surP st) := by
  refine MV_of (by decide +kernel) (Nat.le_of_ble_eq_true rfl) (fun E hF hret => ?_)
  have hF : JF E l cX0_survey RX0 3 (rmo 1 22) D cI cB := hF
  show J E 0 0 (xw h0 ad cI cB st) 0 [(0, .ref h0)] []
  have hs0 := hs
  obtain ⟨s1, s2, s3, s4, s5, s6⟩ := hs0
  have loop3 : ∀ (n i : Nat) (u : PS), st 14 1 - (i : Int) < (n : Int) → (i : Int) ≤ st 14 1 → surC st i u → J E 0 0 (xw h0 ad cI cB u) 108 [(0, .ref h0), (1, iv (chn st i)), (2, iv (i : Int))] [] := by
    intro n
    induction n with
    | zero => intro i u h1 h2 h3; omega
    | succ n ih =>
      intro i u hm i1 hI
      have e5 : u 5 = st 5 := hI.1 5 (by decide)
      have e14 : u 14 = st 14 := hI.1 14 (by decide)
      refine j_iload_n hF dX0_survey_108 rfl 2 rfl ?_
      refine j_aload_n hF dX0_survey_109 rfl 0 rfl ?_
      refine xgs1 hF dX0_survey_110 ?_
      refine j_top (b := st 14 1) (by rw [e14]) ?_
      refine j_icmp_ge hF 136 dX0_survey_113 (by decide) (by omega) (by omega) (fun c1 => ?_) (fun c1 => ?_)
      · exact hret u _ _ dX0_survey_136 (surC_e hI (by omega) hs)
      · obtain ⟨k1, k2⟩ := s6 i (by omega)
        refine j_aload_n hF dX0_survey_116 rfl 0 rfl ?_
        refine xg13 hF dX0_survey_117 ?_
        refine j_iload_n hF dX0_survey_120 rfl 1 rfl ?_
        refine j_iconst hF dX0_survey_121 ?_
        refine xs13 hF dX0_survey_122 (by omega) (Or.inr rfl) ?_
        refine j_aload_n hF dX0_survey_123 rfl 0 rfl ?_
        refine xg5 hF dX0_survey_124 ?_
        refine j_iload_n hF dX0_survey_127 rfl 1 rfl ?_
        refine xl5 hF dX0_survey_128 (by omega) ?_
        refine j_top (b := chn st (i + 1)) (by rw [sw_ne (by decide), e5]; rfl) ?_
        refine j_istore_n hF [(0, .ref h0), (1, iv (chn st (i + 1))), (2, iv (i : Int))] dX0_survey_129 rfl (by decide) [1, 0, 2] rfl ?_
        refine j_iinc hF [(0, .ref h0), (1, iv (chn st (i + 1))), (2, iv ((i : Int) + 1))] dX0_survey_130 2 rfl (by decide) [1, 2, 0] rfl ?_
        refine j_goto hF 108 dX0_survey_133 (by decide) ?_
        exact ih (i + 1) _ (by omega) (by omega) (surC_s hI)
  have tail : ∀ (u : PS) (f : Int), surI st 6 90 u → J E 0 0 (xw h0 ad cI cB u) 76 [(0, .ref h0), (1, iv f)] [] := by
    intro u f hI
    have e14 : u 14 = st 14 := hI.1 14 (by decide)
    have e9 : u 9 = st 9 := hI.1 9 (by decide)
    refine j_aload_n hF dX0_survey_76 rfl 0 rfl ?_
    refine xgs0 hF dX0_survey_77 ?_
    refine j_top (b := st 14 0) (by rw [e14]) ?_
    refine j_iconst hF dX0_survey_80 ?_
    refine j_icmp_eq hF 94 dX0_survey_81 (by decide) (by omega) (by omega) (fun c1 => ?_) (fun c1 => ?_)
    · refine j_aload_n hF dX0_survey_94 rfl 0 rfl ?_
      refine xg9 hF dX0_survey_95 ?_
      refine j_aload_n hF dX0_survey_98 rfl 0 rfl ?_
      refine xgs2 hF dX0_survey_99 ?_
      refine j_top (b := st 14 2) (by rw [e14]) ?_
      refine j_iconst hF dX0_survey_102 ?_
      refine j_and1 hF dX0_survey_103 ?_
      refine xl9 hF dX0_survey_104 (by omega) ?_
      refine j_top (b := chn st 0) (by rw [e9]; rfl) ?_
      refine j_istore_n hF [(0, .ref h0), (1, iv (chn st 0))] dX0_survey_105 rfl (by decide) [1, 0] rfl ?_
      refine j_iconst hF dX0_survey_106 ?_
      refine j_istore_n hF [(0, .ref h0), (1, iv (chn st 0)), (2, iv 0)] dX0_survey_107 rfl (by decide) [1, 2, 0] rfl ?_
      exact loop3 22 0 _ (by omega) (by omega) (surC_0 hI c1)
    · refine j_aload_n hF dX0_survey_84 rfl 0 rfl ?_
      refine xg13 hF dX0_survey_85 ?_
      refine j_aload_n hF dX0_survey_88 rfl 0 rfl ?_
      refine xgs0 hF dX0_survey_89 ?_
      refine j_top (b := st 14 0) (by rw [e14]) ?_
      refine j_iconst hF dX0_survey_92 ?_
      refine xs13 hF dX0_survey_93 (by omega) (Or.inr rfl) ?_
      refine j_aload_n hF dX0_survey_94 rfl 0 rfl ?_
      refine xg9 hF dX0_survey_95 ?_
      refine j_aload_n hF dX0_survey_98 rfl 0 rfl ?_
      refine xgs2 hF dX0_survey_99 ?_
      refine j_top (b := st 14 2) (by rw [sw_ne (by decide), e14]) ?_
      refine j_iconst hF dX0_survey_102 ?_
      refine j_and1 hF dX0_survey_103 ?_
      refine xl9 hF dX0_survey_104 (by omega) ?_
      refine j_top (b := chn st 0) (by rw [sw_ne (by decide), e9]; rfl) ?_
      refine j_istore_n hF [(0, .ref h0), (1, iv (chn st 0))] dX0_survey_105 rfl (by decide) [1, 0] rfl ?_
      refine j_iconst hF dX0_survey_106 ?_
      refine j_istore_n hF [(0, .ref h0), (1, iv (chn st 0)), (2, iv 0)] dX0_survey_107 rfl (by decide) [1, 2, 0] rfl ?_
      exact loop3 22 0 _ (by omega) (by omega) (surC_1 hI)
  have loop2 : ∀ (n : Nat) (f : Int) (u : PS), 6 - f < (n : Int) → 0 ≤ f → f ≤ 6 → surI st f (f * 15) u → J E 0 0 (xw h0 ad cI cB u) 24 [(0, .ref h0), (1, iv f)] [] := by
    intro n
    induction n with
    | zero => intro f u h1 h2 h3 h4; omega
    | succ n ih =>
      intro f u hm f0 f1 hI
      refine j_iload_n hF dX0_survey_24 rfl 1 rfl ?_
      refine j_bipush hF dX0_survey_25 (by decide) ?_
      refine j_icmp_ge hF 76 dX0_survey_27 (by decide) (by omega) (by omega) (fun c1 => ?_) (fun c1 => ?_)
      · have e : f = 6 := by omega
        subst e
        exact tail u 6 hI
      · obtain ⟨o1, o2, o3⟩ := s1 f f0 (by omega)
        have g0 := hI.1
        refine j_aload_n hF dX0_survey_30 rfl 0 rfl ?_
        refine j_aload_n hF dX0_survey_31 rfl 0 rfl ?_
        refine xg10 hF dX0_survey_32 ?_
        refine j_iload_n hF dX0_survey_35 rfl 1 rfl ?_
        refine xl10 hF dX0_survey_36 (by omega) ?_
        refine j_top (b := st 10 f) (by rw [g0 10 (by decide)]) ?_
        refine j_callv (As := [iv (st 10 f)]) (n := 1) hF (mx_need l D cI cB h0 ad u (st 10 f) (by rw [okM_fr (g0 2 (by decide)) (g0 3 (by decide))]; exact o1)) (lw_V q43 q45 qs4 q17 q46) (by decide +kernel) (by decide) ⟨Nat.le_of_ble_eq_true rfl, Nat.le_of_ble_eq_true rfl⟩ rfl 0 rfl rfl rfl [] rfl (by simp [Value.category]) dX0_survey_37 (fun u1 p1 => ?_)
        have g1 : fr [13] st u1 := g0.tr p1.1
        refine j_aload_n hF dX0_survey_40 rfl 0 rfl ?_
        refine j_aload_n hF dX0_survey_41 rfl 0 rfl ?_
        refine xg11 hF dX0_survey_42 ?_
        refine j_iload_n hF dX0_survey_45 rfl 1 rfl ?_
        refine xl11 hF dX0_survey_46 (by omega) ?_
        refine j_top (b := st 11 f) (by rw [g1 11 (by decide)]) ?_
        refine j_callv (As := [iv (st 11 f)]) (n := 1) hF (mx_need l D cI cB h0 ad u1 (st 11 f) (by rw [okM_fr (g1 2 (by decide)) (g1 3 (by decide))]; exact o2)) (lw_V q43 q45 qs4 q17 q46) (by decide +kernel) (by decide) ⟨Nat.le_of_ble_eq_true rfl, Nat.le_of_ble_eq_true rfl⟩ rfl 0 rfl rfl rfl [] rfl (by simp [Value.category]) dX0_survey_47 (fun u2 p2 => ?_)
        have g2 : fr [13] st u2 := g1.tr p2.1
        refine j_aload_n hF dX0_survey_50 rfl 0 rfl ?_
        refine j_aload_n hF dX0_survey_51 rfl 0 rfl ?_
        refine xg8 hF dX0_survey_52 ?_
        refine j_aload_n hF dX0_survey_55 rfl 0 rfl ?_
        refine xgs2 hF dX0_survey_56 ?_
        refine j_top (b := st 14 2) (by rw [g2 14 (by decide)]) ?_
        refine j_iconst hF dX0_survey_59 ?_
        refine j_and1 hF dX0_survey_60 ?_
        refine j_bipush hF dX0_survey_61 (by decide) ?_
        refine j_imul hF dX0_survey_63 ?_
        refine j_iload_n hF dX0_survey_64 rfl 1 rfl ?_
        refine j_iadd hF dX0_survey_65 ?_
        refine xl8 hF dX0_survey_66 (by omega) ?_
        refine j_top (b := pk st f) (by rw [g2 8 (by decide)]; rfl) ?_
        refine j_callv (As := [iv (pk st f)]) (n := 1) hF (mx_need l D cI cB h0 ad u2 (pk st f) (by rw [okM_fr (g2 2 (by decide)) (g2 3 (by decide))]; exact o3)) (lw_V q43 q45 qs4 q17 q46) (by decide +kernel) (by decide) ⟨Nat.le_of_ble_eq_true rfl, Nat.le_of_ble_eq_true rfl⟩ rfl 0 rfl rfl rfl [] rfl (by simp [Value.category]) dX0_survey_67 (fun u3 p3 => ?_)
        refine j_iinc hF [(0, .ref h0), (1, iv (f + 1))] dX0_survey_70 1 rfl (by decide) [1, 0] rfl ?_
        refine j_goto hF 24 dX0_survey_73 (by decide) ?_
        exact ih (f + 1) u3 (by omega) (by omega) (by omega) (by have h := surI_s hI hs f0 (by omega) p1 p2 p3; rwa [show f * 15 + 5 + 5 + 5 = (f + 1) * 15 by omega] at h)
  have loop1 : ∀ (n : Nat) (i : Int) (u : PS), 128 - i < (n : Int) → 0 ≤ i → i ≤ 128 → fr [13] st u → (∀ b : Int, 0 ≤ b → b < i → u 13 b = 0) → J E 0 0 (xw h0 ad cI cB u) 2 [(0, .ref h0), (1, iv i)] [] := by
    intro n
    induction n with
    | zero => intro i u h1 h2 h3 h4 h5; omega
    | succ n ih =>
      intro i u hm i0 i1 hI hz
      refine j_iload_n hF dX0_survey_2 rfl 1 rfl ?_
      refine j_sipush hF dX0_survey_3 (by decide) ?_
      refine j_icmp_ge hF 22 dX0_survey_6 (by decide) (by omega) (by omega) (fun c1 => ?_) (fun c1 => ?_)
      · have e : i = 128 := by omega
        subst e
        refine j_iconst hF dX0_survey_22 ?_
        refine j_istore_n hF [(0, .ref h0), (1, iv 0)] dX0_survey_23 rfl (by decide) [1, 0] rfl ?_
        exact loop2 7 0 u (by omega) (by omega) (by omega) (surI_0 hI hz)
      · refine j_aload_n hF dX0_survey_9 rfl 0 rfl ?_
        refine xg13 hF dX0_survey_10 ?_
        refine j_iload_n hF dX0_survey_13 rfl 1 rfl ?_
        refine j_iconst hF dX0_survey_14 ?_
        refine xs13 hF dX0_survey_15 (by omega) (Or.inl rfl) ?_
        refine j_iinc hF [(0, .ref h0), (1, iv (i + 1))] dX0_survey_16 1 rfl (by decide) [1, 0] rfl ?_
        refine j_goto hF 2 dX0_survey_19 (by decide) ?_
        refine ih (i + 1) _ (by omega) (by omega) (by omega) (hI.sw (by decide)) (fun b b0 b1 => ?_)
        by_cases hb : b = i
        · subst hb; exact sw_eq ..
        · rw [sw_na hb]; exact hz b b0 (by omega)
  refine j_iconst hF dX0_survey_0 ?_
  refine j_istore_n hF [(0, .ref h0), (1, iv 0)] dX0_survey_1 rfl (by decide) [1, 0] rfl ?_
  exact loop1 129 0 st (by omega) (by omega) (by omega) fr.rf (fun b b0 b1 => by omega)
end
section
/-- only the segment may differ -/
def fse (v w : PS) : Prop := fr [14] v w ∧ (∀ j : Int, j ≠ 3 → w 14 j = v 14 j) ∧ (0 ≤ w 14 3 ∧ w 14 3 < 16)
/-- fresh's loop over the segments: below s nothing better is left out -/
def freI (v w : PS) (s most : Int) : Prop := fse v w ∧ ((most = 0 ∧ ∀ b : Int, 0 ≤ b → b < s * 8 → v 13 b = 1) ∨ (0 < most ∧ most ≤ 8 ∧ ∃ b : Int, w 14 3 * 8 ≤ b ∧ b < w 14 3 * 8 + 8 ∧ v 13 b = 0))
theorem freI_le {v w : PS} {s most a : Int} (h : freI v w s most) (hp : freeP v s a) (hle : a ≤ most) : freI v w (s + 1) most := by
  obtain ⟨h1, h2⟩ := h
  obtain ⟨p1, p2, p3, p4⟩ := hp
  refine ⟨h1, ?_⟩
  rcases h2 with ⟨rfl, h2⟩ | h2
  · refine Or.inl ⟨rfl, fun b b0 b1 => ?_⟩
    by_cases hb : b < s * 8
    · exact h2 b b0 hb
    · exact p3 (by omega) b (by omega) (by omega)
  · exact Or.inr h2
theorem freI_gt {v w : PS} {s most a : Int} (h : freI v w s most) (h0 : 0 ≤ s) (h16 : s < 16) (hp : freeP v s a) (hgt : ¬ a ≤ most) : freI v (sw w 14 3 s) (s + 1) a := by
  obtain ⟨⟨f1, f2, f3⟩, h2⟩ := h
  obtain ⟨p1, p2, p3, p4⟩ := hp
  have hm : 0 ≤ most := by rcases h2 with ⟨rfl, -⟩ | ⟨h, -⟩ <;> omega
  refine ⟨⟨f1.sw (by decide), fun j hj => ?_, ?_⟩, Or.inr ⟨by omega, p2, ?_⟩⟩
  · rw [sw_na hj]; exact f2 j hj
  · rw [sw_eq]; exact ⟨h0, h16⟩
  · rw [sw_eq]; exact p4 (by omega)
theorem freI_e {v w : PS} {most : Int} (h : freI v w 16 most) (hx : ∃ b : Int, 0 ≤ b ∧ b < 128 ∧ v 13 b = 0) : ∃ b : Int, w 14 3 * 8 ≤ b ∧ b < w 14 3 * 8 + 8 ∧ v 13 b = 0 := by
  rcases h.2 with ⟨-, h2⟩ | ⟨-, -, h2⟩
  · obtain ⟨b, b0, b1, b2⟩ := hx
    have := h2 b b0 (by omega)
    omega
  · exact h2
theorem fse_rf {v : PS} (h : 0 ≤ v 14 3 ∧ v 14 3 < 16) : fse v v := ⟨fr.rf, fun _ _ => rfl, h⟩
theorem fre_fin {st v w : PS} {a : Int} (hs : surP st v) (hw : fse v w) (h0 : 0 ≤ a) (h1 : a < 128) (hz : v 13 a = 0) : freP st a (sw w 4 a (-1)) := by
  obtain ⟨s1, s2, s3, s4⟩ := hs
  obtain ⟨f1, f2, f3⟩ := hw
  refine ⟨⟨h0, h1⟩, fun hn => by have := s3 a hn; omega, fun k hk => ?_, fun j hj => ?_, ?_, ?_⟩
  · simp only [List.mem_cons, List.not_mem_nil, or_false, not_or] at hk
    rw [sw_ne hk.1, f1 k (by simp [hk.2.2]), s1 k (by simp [hk.2.1])]
  · rw [sw_ne (by decide), f2 j hj, s1 14 (by decide)]
  · rw [sw_ne (by decide)]; exact f3
  · funext b
    by_cases hb : b = a
    · subst hb; rw [sw_eq, if_pos rfl]
    · rw [sw_na hb, if_neg hb, f1 4 (by decide), s1 4 (by decide)]
end
section
set_option maxRecDepth 100000
set_option maxHeartbeats 4000000 in
/-- fresh(): a block that nothing needs -/
theorem mx_fresh (l : Launch) (D : va_G) (cI cB : ClassId) (h0 : Nat) (ad : Nat → Nat) (st : PS) (hs : Sv st) : MI l D cI cB (xw h0 ad cI cB) yX0_fresh cX0_fresh 5 (some .int) 2 44 [.ref h0] st (freP st) := by
  refine MI_of (by decide +kernel) (Nat.le_of_ble_eq_true rfl) (fun E hF hret => ?_)
  have hF : JF E l cX0_fresh RX0 5 (rmo 2 44) D cI cB := hF
  show J E 0 0 (xw h0 ad cI cB st) 0 [(0, .ref h0)] []
  have s5 := hs.2.2.2.2.1
  refine j_aload_n hF dX0_fresh_0 rfl 0 rfl ?_
  refine j_callv (As := []) (n := 0) hF (mx_survey l D cI cB h0 ad st hs) (lw_V q39 q41 qs3 q17 q42) (by decide +kernel) (by decide) ⟨Nat.le_of_ble_eq_true rfl, Nat.le_of_ble_eq_true rfl⟩ rfl 0 rfl rfl rfl [] rfl (by simp [Value.category]) dX0_fresh_1 (fun v hv => ?_)
  have hv0 := hv
  obtain ⟨v1, v2, v3, v4⟩ := hv0
  have e14 : v 14 = st 14 := v1 14 (by decide)
  have sg : 0 ≤ v 14 3 ∧ v 14 3 < 16 := by rw [e14]; exact s5
  have loop2 : ∀ (n : Nat) (w : PS) (here found b : Int), fse v w → (∃ c : Int, w 14 3 * 8 ≤ c ∧ c < w 14 3 * 8 + 8 ∧ v 13 c = 0) → b - (w 14 3 * 8 - 1) < (n : Int) → w 14 3 * 8 - 1 ≤ b → b ≤ w 14 3 * 8 + 7 → w 14 3 * 8 ≤ found → found < w 14 3 * 8 + 8 → (v 13 found = 0 ∨ ∀ c : Int, b < c → c < w 14 3 * 8 + 8 → v 13 c = 1) → J E 0 0 (xw h0 ad cI cB w) 75 [(0, .ref h0), (1, iv here), (2, iv found), (3, iv b)] [] := by
    intro n
    induction n with
    | zero => intro w here found b h1 h2 h3 h4 h5 h6 h7 h8; omega
    | succ n ih =>
      intro w here found b hw hx hm b0 b1 f0 f1 hI
      obtain ⟨w1, w2, w3, w4⟩ := id hw
      refine j_iload_n hF dX0_fresh_75 rfl 3 rfl ?_
      refine j_aload_n hF dX0_fresh_76 rfl 0 rfl ?_
      refine xgs3 hF dX0_fresh_77 ?_
      refine j_bipush hF dX0_fresh_80 (by decide) ?_
      refine j_imul hF dX0_fresh_82 ?_
      refine j_icmp_lt hF 103 dX0_fresh_83 (by decide) (by omega) (by omega) (fun c1 => ?_) (fun c1 => ?_)
      · have hz : v 13 found = 0 := by
          rcases hI with h | h
          · exact h
          · obtain ⟨c, c1, c2, c3⟩ := hx
            have := h c (by omega) c2
            omega
        refine j_aload_n hF dX0_fresh_103 rfl 0 rfl ?_
        refine xg4 hF dX0_fresh_104 ?_
        refine j_iload_n hF dX0_fresh_107 rfl 2 rfl ?_
        refine j_iconst hF dX0_fresh_108 ?_
        refine xs4 hF dX0_fresh_109 (by omega) ?_
        refine j_iload_n hF dX0_fresh_110 rfl 2 rfl ?_
        exact hret found _ _ _ dX0_fresh_111 (fre_fin hv hw (by omega) (by omega) hz)
      · have hz := v2 b (by omega) (by omega)
        refine j_aload_n hF dX0_fresh_86 rfl 0 rfl ?_
        refine xg13 hF dX0_fresh_87 ?_
        refine j_iload_n hF dX0_fresh_90 rfl 3 rfl ?_
        refine xl13 hF dX0_fresh_91 (by omega) ?_
        refine j_top (b := v 13 b) (by rw [w1 13 (by decide)]) ?_
        refine j_if_ne hF 97 dX0_fresh_92 (by decide) (by omega) (fun c2 => ?_) (fun c2 => ?_)
        · refine j_iinc hF [(0, .ref h0), (1, iv here), (2, iv found), (3, iv (b + (-1)))] dX0_fresh_97 3 rfl (by decide) [1, 2, 3, 0] rfl ?_
          refine j_goto hF 75 dX0_fresh_100 (by decide) ?_
          refine ih w here found (b + (-1)) hw hx (by omega) (by omega) (by omega) f0 f1 (hI.imp id (fun h c c3 c4 => ?_))
          by_cases hc : c = b
          · subst hc; omega
          · exact h c (by omega) c4
        · refine j_iload_n hF dX0_fresh_95 rfl 3 rfl ?_
          refine j_istore_n hF [(0, .ref h0), (1, iv here), (2, iv b), (3, iv b)] dX0_fresh_96 rfl (by decide) [1, 2, 0, 3] rfl ?_
          refine j_iinc hF [(0, .ref h0), (1, iv here), (2, iv b), (3, iv (b + (-1)))] dX0_fresh_97 3 rfl (by decide) [1, 2, 3, 0] rfl ?_
          refine j_goto hF 75 dX0_fresh_100 (by decide) ?_
          exact ih w here b (b + (-1)) hw hx (by omega) (by omega) (by omega) (by omega) (by omega) (Or.inl c2)
  have tail : ∀ (w : PS) (here : Int), fse v w → (∃ c : Int, w 14 3 * 8 ≤ c ∧ c < w 14 3 * 8 + 8 ∧ v 13 c = 0) → J E 0 0 (xw h0 ad cI cB w) 54 [(0, .ref h0), (1, iv here)] [] := by
    intro w here hw hx
    refine j_aload_n hF dX0_fresh_54 rfl 0 rfl ?_
    refine xgs3 hF dX0_fresh_55 ?_
    refine j_bipush hF dX0_fresh_58 (by decide) ?_
    refine j_imul hF dX0_fresh_60 ?_
    refine j_istore_n hF [(0, .ref h0), (1, iv here), (2, iv ((w 14 3) * 8))] dX0_fresh_61 rfl (by decide) [1, 2, 0] rfl ?_
    refine j_aload_n hF dX0_fresh_62 rfl 0 rfl ?_
    refine xgs3 hF dX0_fresh_63 ?_
    refine j_bipush hF dX0_fresh_66 (by decide) ?_
    refine j_imul hF dX0_fresh_68 ?_
    refine j_bipush hF dX0_fresh_69 (by decide) ?_
    refine j_iadd hF dX0_fresh_71 ?_
    refine j_iconst hF dX0_fresh_72 ?_
    refine j_isub hF dX0_fresh_73 ?_
    refine j_istore_n hF [(0, .ref h0), (1, iv here), (2, iv ((w 14 3) * 8)), (3, iv ((((w 14 3) * 8) + 8) - 1))] dX0_fresh_74 rfl (by decide) [1, 2, 3, 0] rfl ?_
    exact loop2 9 w here _ _ hw hx (by omega) (by omega) (by omega) (by omega) (by omega) (Or.inr (fun c c1 c2 => by omega))
  have loop1 : ∀ (n : Nat) (w : PS) (here most s : Int), 16 - s < (n : Int) → 0 ≤ s → s ≤ 16 → freI v w s most → J E 0 0 (xw h0 ad cI cB w) 21 [(0, .ref h0), (1, iv here), (2, iv most), (3, iv s)] [] := by
    intro n
    induction n with
    | zero => intro w here most s h1 h2 h3 h4; omega
    | succ n ih =>
      intro w here most s hm s0 s1 hI
      have hmo : 0 ≤ most ∧ most ≤ 8 := by rcases hI.2 with ⟨rfl, -⟩ | ⟨h, h', -⟩ <;> omega
      have e13 : w 13 = v 13 := hI.1.1 13 (by decide)
      refine j_iload_n hF dX0_fresh_21 rfl 3 rfl ?_
      refine j_bipush hF dX0_fresh_22 (by decide) ?_
      refine j_icmp_ge hF 54 dX0_fresh_24 (by decide) (by omega) (by omega) (fun c1 => ?_) (fun c1 => ?_)
      · have e : s = 16 := by omega
        subst e
        exact j_loc [0, 1] rfl (tail w here hI.1 (freI_e hI v4))
      · refine j_aload_n hF dX0_fresh_27 rfl 0 rfl ?_
        refine j_iload_n hF dX0_fresh_28 rfl 3 rfl ?_
        refine j_calli (As := [iv s]) (n := 1) hF (mx_freeIn l D cI cB h0 ad w s s0 (by omega) (fun b b0 b1 => by rw [e13]; exact v2 b b0 b1)) (lw_V q47 q49 qs5 q17 q50) (by decide +kernel) (by decide) ⟨Nat.le_of_ble_eq_true rfl, Nat.le_of_ble_eq_true rfl⟩ rfl 0 rfl rfl rfl [] rfl (by simp [Value.category]) dX0_fresh_29 (fun a w' hq => ?_)
        obtain ⟨hw', hq⟩ := hq
        rw [hw']
        have hq : freeP v s a := by simpa only [freeP, e13] using hq
        have ha0 := hq.1
        have ha1 := hq.2.1
        refine j_istore hF [(0, .ref h0), (1, iv here), (2, iv most), (3, iv s), (4, iv a)] dX0_fresh_32 (by decide) [1, 2, 3, 4, 0] rfl ?_
        refine j_iload hF dX0_fresh_34 4 rfl ?_
        refine j_iload_n hF dX0_fresh_36 rfl 2 rfl ?_
        refine j_icmp_le hF 48 dX0_fresh_37 (by decide) (by omega) (by omega) (fun c2 => ?_) (fun c2 => ?_)
        · refine j_iinc hF [(0, .ref h0), (1, iv here), (2, iv most), (3, iv (s + 1)), (4, iv a)] dX0_fresh_48 3 rfl (by decide) [1, 2, 3, 0, 4] rfl ?_
          refine j_goto hF 21 dX0_fresh_51 (by decide) ?_
          exact j_loc [0, 1, 2, 3] rfl (ih w here most (s + 1) (by omega) (by omega) (by omega) (freI_le hI hq c2))
        · refine j_iload hF dX0_fresh_40 4 rfl ?_
          refine j_istore_n hF [(0, .ref h0), (1, iv here), (2, iv a), (3, iv s), (4, iv a)] dX0_fresh_42 rfl (by decide) [1, 2, 0, 3, 4] rfl ?_
          refine j_aload_n hF dX0_fresh_43 rfl 0 rfl ?_
          refine j_iload_n hF dX0_fresh_44 rfl 3 rfl ?_
          refine xps3 hF dX0_fresh_45 ?_
          refine j_iinc hF [(0, .ref h0), (1, iv here), (2, iv a), (3, iv (s + 1)), (4, iv a)] dX0_fresh_48 3 rfl (by decide) [1, 2, 3, 0, 4] rfl ?_
          refine j_goto hF 21 dX0_fresh_51 (by decide) ?_
          exact j_loc [0, 1, 2, 3] rfl (ih _ here a (s + 1) (by omega) (by omega) (by omega) (freI_gt hI s0 (by omega) hq c2))
  refine j_aload_n hF dX0_fresh_4 rfl 0 rfl ?_
  refine j_aload_n hF dX0_fresh_5 rfl 0 rfl ?_
  refine xgs3 hF dX0_fresh_6 ?_
  refine j_calli (As := [iv (v 14 3)]) (n := 1) hF (mx_freeIn l D cI cB h0 ad v (v 14 3) sg.1 sg.2 v2) (lw_V q47 q49 qs5 q17 q50) (by decide +kernel) (by decide) ⟨Nat.le_of_ble_eq_true rfl, Nat.le_of_ble_eq_true rfl⟩ rfl 0 rfl rfl rfl [] rfl (by simp [Value.category]) dX0_fresh_9 (fun here v' hq => ?_)
  obtain ⟨hv', hq⟩ := hq
  rw [hv']
  have ha0 := hq.1
  have ha1 := hq.2.1
  refine j_istore_n hF [(0, .ref h0), (1, iv here)] dX0_fresh_12 rfl (by decide) [1, 0] rfl ?_
  refine j_iload_n hF dX0_fresh_13 rfl 1 rfl ?_
  refine j_if_ne hF 54 dX0_fresh_14 (by decide) (by omega) (fun c0 => ?_) (fun c0 => ?_)
  · exact tail v here (fse_rf sg) (hq.2.2.2 c0)
  · refine j_iconst hF dX0_fresh_17 ?_
    refine j_istore_n hF [(0, .ref h0), (1, iv here), (2, iv 0)] dX0_fresh_18 rfl (by decide) [1, 2, 0] rfl ?_
    refine j_iconst hF dX0_fresh_19 ?_
    refine j_istore_n hF [(0, .ref h0), (1, iv here), (2, iv 0), (3, iv 0)] dX0_fresh_20 rfl (by decide) [1, 2, 3, 0] rfl ?_
    exact loop1 17 v here 0 0 (by omega) (by omega) (by omega) ⟨fse_rf sg, Or.inl ⟨rfl, fun b b0 b1 => by omega⟩⟩
end
section
/-- the word's block that writeNode takes from the old node -/
def wnv (st : PS) (old k : Int) : Int := if old ≠ -1 ∧ k < st 2 old then st 3 (old * 4 + k) else -1
/-- what writeNode(f, size, old, -1, -1) does: the new node block is n -/
def wnP (st : PS) (f size old n : Int) (u : PS) : Prop := (0 ≤ n ∧ n < 128) ∧ ¬ Nd st n ∧ fr [1, 2, 3, 4, 10, 13, 14] st u ∧ (∀ j : Int, j ≠ 3 → u 14 j = st 14 j) ∧ (0 ≤ u 14 3 ∧ u 14 3 < 16) ∧ (u 4 = fun b => if b = n then -1 else st 4 b) ∧ (u 1 = fun b => if b = n then f else st 1 b) ∧ (u 2 = fun b => if b = n then size else st 2 b) ∧ (u 10 = fun g => if g = f then n else st 10 g) ∧ (∀ j : Int, 0 ≤ j → j < 4 → u 3 (n * 4 + j) = wnv st old j) ∧ ∀ a : Int, a < n * 4 ∨ n * 4 + 4 ≤ a → u 3 a = st 3 a
/-- its loop at k -/
def wnI (st v : PS) (f size old n k : Int) (u : PS) : Prop := fr [3] (sw (sw v 1 n f) 2 n size) u ∧ (∀ j : Int, 0 ≤ j → j < k → u 3 (n * 4 + j) = wnv st old j) ∧ ∀ a : Int, a < n * 4 ∨ n * 4 + k ≤ a → u 3 a = st 3 a
theorem wnI_0 {st v : PS} {f size old n : Int} (hv : freP st n v) : wnI st v f size old n 0 (sw (sw v 1 n f) 2 n size) := by
  refine ⟨fr.rf, fun j h1 h2 => by omega, fun a ha => ?_⟩
  rw [sw_ne (by decide), sw_ne (by decide), hv.2.2.1 3 (by decide)]
theorem wnI_s {st v u : PS} {f size old n k x : Int} (h : wnI st v f size old n k u) (hk : 0 ≤ k) (hx : x = wnv st old k) : wnI st v f size old n (k + 1) (sw u 3 (n * 4 + k) x) := by
  obtain ⟨h1, h2, h3⟩ := h
  refine ⟨h1.sw (by decide), fun j j0 j1 => ?_, fun a ha => ?_⟩
  · by_cases hj : j = k
    · subst hj; rw [sw_eq, hx]
    · rw [sw_na (by omega)]; exact h2 j j0 (by omega)
  · rw [sw_na (by omega)]; exact h3 a (by omega)
theorem sw_fun (st : PS) (k : Nat) (a b : Int) : sw st k a b k = fun c => if c = a then b else st k c := by
  funext c; simp [sw]
theorem wnI_2 {st v u : PS} {f size old n k : Int} (hv : freP st n v) (h : wnI st v f size old n k u) : u 2 = fun b => if b = n then size else st 2 b := by
  rw [h.1 2 (by decide), sw_fun, sw_ne (by decide), hv.2.2.1 2 (by decide)]
theorem wnI_e {st v u : PS} {f size old n : Int} (hv : freP st n v) (h : wnI st v f size old n 4 u) : wnP st f size old n (sw u 10 f n) := by
  have e2 := wnI_2 hv h
  obtain ⟨h1, h2, h3⟩ := h
  obtain ⟨v1, v2, v3, v4, v5, v6⟩ := hv
  have g : ∀ k : Nat, k ∉ [1, 2, 3] → u k = v k := fun k hk => by
    simp only [List.mem_cons, List.not_mem_nil, or_false, not_or] at hk
    rw [h1 k (by simp [hk.2.2]), sw_ne hk.2.1, sw_ne hk.1]
  refine ⟨v1, v2, fun k hk => ?_, fun j hj => ?_, ?_, ?_, ?_, ?_, ?_, fun j j0 j1 => ?_, fun a ha => ?_⟩
  · simp only [List.mem_cons, List.not_mem_nil, or_false, not_or] at hk
    rw [sw_ne hk.2.2.2.2.1, g k (by simp [hk]), v3 k (by simp [hk])]
  · rw [sw_ne (by decide), g 14 (by decide)]; exact v4 j hj
  · rw [sw_ne (by decide), g 14 (by decide)]; exact v5
  · rw [sw_ne (by decide), g 4 (by decide)]; exact v6
  · rw [sw_ne (by decide), h1 1 (by decide), sw_ne (by decide), sw_fun, v3 1 (by decide)]
  · rw [sw_ne (by decide)]; exact e2
  · rw [sw_fun, g 10 (by decide), v3 10 (by decide)]
  · rw [sw_ne (by decide)]; exact h2 j j0 j1
  · rw [sw_ne (by decide)]; exact h3 a ha
end
section
set_option maxRecDepth 100000
set_option maxHeartbeats 4000000 in
/-- writeNode(f, size, old, -1, -1) -/
theorem mx_writeNode (l : Launch) (D : va_G) (cI cB : ClassId) (h0 : Nat) (ad : Nat → Nat) (st : PS) (f size old : Int) (hs : Sv st) (hf : 0 ≤ f ∧ f < 6) (ho : old = -1 ∨ old = st 10 f) : MV l D cI cB (xw h0 ad cI cB) yX0_writeNode cX0_writeNode 9 3 68 [.ref h0, iv f, iv size, iv old, iv (-1), iv (-1)] st (fun u => ∃ n : Int, wnP st f size old n u) := by
  refine MV_of (by decide +kernel) (Nat.le_of_ble_eq_true rfl) (fun E hF hret => ?_)
  have hF : JF E l cX0_writeNode RX0 9 (rmo 3 68) D cI cB := hF
  show J E 0 0 (xw h0 ad cI cB st) 0 [(0, .ref h0), (1, iv f), (2, iv size), (3, iv old), (4, iv (-1)), (5, iv (-1))] []
  have hok : okM st old := by
    rcases ho with h | h
    · exact Or.inl h
    · rw [h]; exact (hs.1 f hf.1 hf.2).1
  have hr := hok.rg
  refine j_aload_n hF dX0_writeNode_0 rfl 0 rfl ?_
  refine j_calli (As := []) (n := 0) hF (mx_fresh l D cI cB h0 ad st hs) (lw_V q35 q37 qs2 q17 q38) (by decide +kernel) (by decide) ⟨Nat.le_of_ble_eq_true rfl, Nat.le_of_ble_eq_true rfl⟩ rfl 0 rfl rfl rfl [] rfl (by simp [Value.category]) dX0_writeNode_1 (fun n v hv => ?_)
  have hv0 := hv
  obtain ⟨v1, v2, v3, v4, v5, v6⟩ := hv0
  have hon : old ≠ n := by
    intro e
    rcases ho with h | h
    · omega
    · refine v2 (Or.inl ⟨f, hf.1, hf.2, Or.inl ⟨by omega, Or.inl (by omega)⟩⟩)
  have loop : ∀ (m : Nat) (k : Int) (u : PS), 4 - k < (m : Int) → 0 ≤ k → k ≤ 4 → wnI st v f size old n k u → J E 0 0 (xw h0 ad cI cB u) 25 [(0, .ref h0), (1, iv f), (2, iv size), (3, iv old), (4, iv (-1)), (5, iv (-1)), (6, iv n), (7, iv k)] [] := by
    intro m
    induction m with
    | zero => intro k u h1 h2 h3 h4; omega
    | succ m ih =>
      intro k u hm k0 k1 hI
      have e2 := wnI_2 hv hI
      have e2o : u 2 old = st 2 old := by rw [e2]; exact if_neg hon
      have tail : ∀ x : Int, k < 4 → x = wnv st old k → J E 0 0 (xw h0 ad cI cB u) 62 [(0, .ref h0), (1, iv f), (2, iv size), (3, iv old), (4, iv (-1)), (5, iv (-1)), (6, iv n), (7, iv k)] [iv x] := by
        intro x h4 hx
        refine j_istore hF [(0, .ref h0), (1, iv f), (2, iv size), (3, iv old), (4, iv (-1)), (5, iv (-1)), (6, iv n), (7, iv k), (8, iv x)] dX0_writeNode_62 (by decide) [1, 2, 3, 4, 5, 6, 7, 8, 0] rfl ?_
        refine j_aload_n hF dX0_writeNode_64 rfl 0 rfl ?_
        refine xg3 hF dX0_writeNode_65 ?_
        refine j_iload hF dX0_writeNode_68 6 rfl ?_
        refine j_iconst hF dX0_writeNode_70 ?_
        refine j_imul hF dX0_writeNode_71 ?_
        refine j_iload hF dX0_writeNode_72 7 rfl ?_
        refine j_iadd hF dX0_writeNode_74 ?_
        refine j_iload hF dX0_writeNode_75 7 rfl ?_
        refine j_iload hF dX0_writeNode_77 4 rfl ?_
        refine j_icmp_ne hF 87 dX0_writeNode_79 (by decide) (by omega) (by omega) (fun c4 => ?_) (fun c4 => ?_)
        · refine j_iload hF dX0_writeNode_87 8 rfl ?_
          refine xs3 hF dX0_writeNode_89 (by omega) ?_
          refine j_iinc hF [(0, .ref h0), (1, iv f), (2, iv size), (3, iv old), (4, iv (-1)), (5, iv (-1)), (6, iv n), (7, iv (k + 1)), (8, iv x)] dX0_writeNode_90 7 rfl (by decide) [1, 2, 3, 4, 5, 6, 7, 0, 8] rfl ?_
          refine j_goto hF 25 dX0_writeNode_93 (by decide) ?_
          exact j_loc [0, 1, 2, 3, 4, 5, 6, 7] rfl (ih (k + 1) _ (by omega) (by omega) (by omega) (wnI_s hI k0 hx))
        · omega
      refine j_iload hF dX0_writeNode_25 7 rfl ?_
      refine j_iconst hF dX0_writeNode_27 ?_
      refine j_icmp_ge hF 96 dX0_writeNode_28 (by decide) (by omega) (by omega) (fun c1 => ?_) (fun c1 => ?_)
      · have e : k = 4 := by omega
        subst e
        refine j_aload_n hF dX0_writeNode_96 rfl 0 rfl ?_
        refine xg10 hF dX0_writeNode_97 ?_
        refine j_iload_n hF dX0_writeNode_100 rfl 1 rfl ?_
        refine j_iload hF dX0_writeNode_101 6 rfl ?_
        refine xs10 hF dX0_writeNode_103 (by omega) ?_
        exact hret _ _ _ dX0_writeNode_104 ⟨n, wnI_e hv hI⟩
      · refine j_iload_n hF dX0_writeNode_31 rfl 3 rfl ?_
        refine j_iconst hF dX0_writeNode_32 ?_
        refine j_icmp_eq hF 47 dX0_writeNode_33 (by decide) (by omega) (by omega) (fun c2 => ?_) (fun c2 => ?_)
        · refine j_iconst hF dX0_writeNode_47 ?_
          refine j_goto hF 62 dX0_writeNode_48 (by decide) ?_
          exact tail _ (by omega) (by rw [wnv, if_neg (fun h => h.1 c2)])
        · obtain ⟨k1', k2', k3', k4', k5'⟩ := hok.resolve_left c2
          refine j_iload hF dX0_writeNode_36 7 rfl ?_
          refine j_aload_n hF dX0_writeNode_38 rfl 0 rfl ?_
          refine xg2 hF dX0_writeNode_39 ?_
          refine j_iload_n hF dX0_writeNode_42 rfl 3 rfl ?_
          refine xl2 hF dX0_writeNode_43 (by omega) ?_
          refine j_top (b := st 2 old) (e2o) ?_
          refine j_icmp_lt hF 51 dX0_writeNode_44 (by decide) (by omega) (by omega) (fun c3 => ?_) (fun c3 => ?_)
          · refine j_aload_n hF dX0_writeNode_51 rfl 0 rfl ?_
            refine xg3 hF dX0_writeNode_52 ?_
            refine j_iload_n hF dX0_writeNode_55 rfl 3 rfl ?_
            refine j_iconst hF dX0_writeNode_56 ?_
            refine j_imul hF dX0_writeNode_57 ?_
            refine j_iload hF dX0_writeNode_58 7 rfl ?_
            refine j_iadd hF dX0_writeNode_60 ?_
            refine xl3 hF dX0_writeNode_61 (by omega) ?_
            refine j_top (b := st 3 (old * 4 + k)) (hI.2.2 _ (by omega)) ?_
            exact tail _ (by omega) (by rw [wnv, if_pos ⟨c2, c3⟩])
          · refine j_iconst hF dX0_writeNode_47 ?_
            refine j_goto hF 62 dX0_writeNode_48 (by decide) ?_
            exact tail _ (by omega) (by rw [wnv, if_neg (fun h => c3 h.2)])
  refine j_istore hF [(0, .ref h0), (1, iv f), (2, iv size), (3, iv old), (4, iv (-1)), (5, iv (-1)), (6, iv n)] dX0_writeNode_4 (by decide) [1, 2, 3, 4, 5, 6, 0] rfl ?_
  refine j_aload_n hF dX0_writeNode_6 rfl 0 rfl ?_
  refine xg1 hF dX0_writeNode_7 ?_
  refine j_iload hF dX0_writeNode_10 6 rfl ?_
  refine j_iload_n hF dX0_writeNode_12 rfl 1 rfl ?_
  refine xs1 hF dX0_writeNode_13 (by omega) ?_
  refine j_aload_n hF dX0_writeNode_14 rfl 0 rfl ?_
  refine xg2 hF dX0_writeNode_15 ?_
  refine j_iload hF dX0_writeNode_18 6 rfl ?_
  refine j_iload_n hF dX0_writeNode_20 rfl 2 rfl ?_
  refine xs2 hF dX0_writeNode_21 (by omega) ?_
  refine j_iconst hF dX0_writeNode_22 ?_
  refine j_istore hF [(0, .ref h0), (1, iv f), (2, iv size), (3, iv old), (4, iv (-1)), (5, iv (-1)), (6, iv n), (7, iv 0)] dX0_writeNode_23 (by decide) [1, 2, 3, 4, 5, 6, 7, 0] rfl ?_
  exact loop 5 0 _ (by omega) (by omega) (by omega) (wnI_0 hv)
end
section
/-- what lasts for f, by the present pack and the first i blocks of the chain -/
def rl (st : PS) (f : Int) : Nat → Int
  | 0 => pk st f
  | i + 1 => if st 1 (chn st i) = f then chn st i else rl st f i
/-- THE INVARIANT of NodeTableFiles between calls: c blocks are chained, the number of the last checkpoint is at most N -/
def InvC (N : Int) (c : Nat) (st : PS) : Prop :=
  (∀ f : Int, 0 ≤ f → f < 6 → okM st (st 10 f) ∧ okM st (st 11 f) ∧ okM st (pk st f)) ∧ (0 ≤ st 14 0 ∧ st 14 0 < 128) ∧ (st 14 1 = c ∧ c ≤ 20) ∧ (1 ≤ st 14 2 ∧ st 14 2 ≤ N) ∧ (0 ≤ st 14 3 ∧ st 14 3 < 16) ∧
  (∀ i : Nat, i < c → (0 ≤ chn st i ∧ chn st i < 128) ∧ st 4 (chn st i) = st 14 2 ∧ (0 ≤ st 1 (chn st i) ∧ st 1 (chn st i) < 6) ∧ chn st i ≠ st 14 0) ∧ chn st c = st 14 0 ∧ st 4 (st 14 0) = -1 ∧
  (∀ f : Int, 0 ≤ f → f < 6 → st 11 f = rl st f c) ∧ (∀ f : Int, 0 ≤ f → f < 6 → st 10 f ≠ st 14 0 ∧ st 11 f ≠ st 14 0 ∧ pk st f ≠ st 14 0) ∧
  (st 6 0 = st 7 0 ∧ st 6 1 = st 7 1 ∧ st 7 (par st) = st 14 2 ∧ st 7 (1 - par st) < st 14 2 ∧ 0 ≤ st 7 (1 - par st)) ∧ ∀ f : Int, 0 ≤ f → f < 6 → st 12 f = 0 ∨ st 12 f = 1
theorem par_in (st : PS) : par st = 0 ∨ par st = 1 := by unfold par; omega
theorem InvC.sv {N : Int} {c : Nat} {st : PS} (h : InvC N c st) (hN : N ≤ 1000) : Sv st := by
  obtain ⟨a, b, c1, d, e, f, -⟩ := h
  exact ⟨a, ⟨by omega, b.2⟩, ⟨by omega, by omega⟩, ⟨by omega, by omega⟩, e, fun i hi => (f i (by omega)).1⟩
/-- what writePack asks -/
def WPre (st : PS) : Prop := (∀ f : Int, 0 ≤ f → f < 6 → okM st (st 10 f) ∧ okM st (st 11 f)) ∧ (0 ≤ st 14 2 ∧ st 14 2 ≤ 900) ∧ (0 ≤ st 14 3 ∧ st 14 3 < 16) ∧ (st 6 0 = st 7 0 ∧ st 6 1 = st 7 1 ∧ st 7 (par st) = st 14 2) ∧ ∀ f : Int, 0 ≤ f → f < 6 → st 12 f = 0 ∨ st 12 f = 1
/-- its loop -/
def wpI (st : PS) (f : Int) (u : PS) : Prop := fr [6, 8, 14] st u ∧ (∀ j : Int, j ≠ 2 → u 14 j = st 14 j) ∧ u 14 2 = st 14 2 + 1 ∧ (u 6 = fun b => if b = (st 14 2 + 1) % 2 then st 14 2 + 1 else st 6 b) ∧ ∀ g : Int, 0 ≤ g → g < f → u 8 ((st 14 2 + 1) % 2 * 6 + g) = st 11 g
theorem wpI_0 (st : PS) : wpI st 0 (sw (sw st 14 2 (st 14 2 + 1)) 6 ((st 14 2 + 1) % 2) (st 14 2 + 1)) := by
  refine ⟨(fr.rf.sw (by decide)).sw (by decide), fun j hj => ?_, ?_, ?_, fun g h1 h2 => by omega⟩
  · rw [sw_ne (by decide), sw_na hj]
  · rw [sw_ne (by decide), sw_eq]
  · rw [sw_fun, sw_ne (by decide)]
theorem wpI_s {st u : PS} {f : Int} (h : wpI st f u) (h0 : 0 ≤ f) : wpI st (f + 1) (sw u 8 ((st 14 2 + 1) % 2 * 6 + f) (st 11 f)) := by
  obtain ⟨h1, h2, h3, h4, h5⟩ := h
  refine ⟨h1.sw (by decide), fun j hj => ?_, ?_, ?_, fun g g0 g1 => ?_⟩
  · rw [sw_ne (by decide)]; exact h2 j hj
  · rw [sw_ne (by decide)]; exact h3
  · rw [sw_ne (by decide)]; exact h4
  · by_cases hg : g = f
    · subst hg; exact sw_eq ..
    · rw [sw_na (by omega)]; exact h5 g g0 (by omega)
theorem wpI_sv {st u : PS} (hp : WPre st) (h : wpI st 6 u) : Sv (sw (sw u 14 1 0) 14 0 (-1)) := by
  obtain ⟨h1, h2, h3, h4, h5⟩ := h
  obtain ⟨p1, p2, p3, p4, p5⟩ := hp
  have e : fr [6, 8, 14] st (sw (sw u 14 1 0) 14 0 (-1)) := (h1.sw (by decide)).sw (by decide)
  have e2 : sw (sw u 14 1 0) 14 0 (-1) 14 2 = st 14 2 + 1 := by rw [sw_na (by decide), sw_na (by decide), h3]
  have e1 : sw (sw u 14 1 0) 14 0 (-1) 14 1 = 0 := by rw [sw_na (by decide), sw_eq]
  have e0 : sw (sw u 14 1 0) 14 0 (-1) 14 0 = -1 := by rw [sw_eq]
  have e3 : sw (sw u 14 1 0) 14 0 (-1) 14 3 = st 14 3 := by rw [sw_na (by decide), sw_na (by decide), h2 3 (by decide)]
  have e8 : sw (sw u 14 1 0) 14 0 (-1) 8 = u 8 := by rw [sw_ne (by decide), sw_ne (by decide)]
  refine ⟨fun f f0 f1 => ?_, by rw [e0]; decide, by rw [e1]; decide, by rw [e2]; omega, by rw [e3]; exact p3, fun i hi => by rw [e1] at hi; omega⟩
  rw [okM_fr (e 2 (by decide)) (e 3 (by decide)), okM_fr (e 2 (by decide)) (e 3 (by decide)), okM_fr (e 2 (by decide)) (e 3 (by decide)), e 10 (by decide), e 11 (by decide), pk, par, e2, e8, h5 f f0 f1]
  exact ⟨(p1 f f0 f1).1, (p1 f f0 f1).2, (p1 f f0 f1).2⟩
/-- what writePack does -/
def wpP (st u : PS) : Prop := fr [4, 6, 7, 8, 9, 13, 14] st u ∧ InvC (st 14 2 + 1) 0 u
theorem notNd {st : PS} {a f : Int} (h : ¬ Nd st a) (f0 : 0 ≤ f) (f1 : f < 6) (a0 : 0 ≤ a) : st 10 f ≠ a ∧ st 11 f ≠ a ∧ pk st f ≠ a :=
  ⟨fun e => h (Or.inl ⟨f, f0, f1, Or.inl ⟨by omega, Or.inl e.symm⟩⟩), fun e => h (Or.inl ⟨f, f0, f1, Or.inr (Or.inl ⟨by omega, Or.inl e.symm⟩)⟩), fun e => h (Or.inl ⟨f, f0, f1, Or.inr (Or.inr ⟨by omega, Or.inl e.symm⟩)⟩)⟩
theorem wp_fin {st u v : PS} {a : Int} (hp : WPre st) (h : wpI st 6 u) (hv : freP (sw (sw u 14 1 0) 14 0 (-1)) a v) : wpP st (sw (sw (sw v 14 0 a) 9 ((st 14 2 + 1) % 2) a) 7 ((st 14 2 + 1) % 2) (st 14 2 + 1)) := by
  have hsv := wpI_sv hp h
  obtain ⟨h1, h2, h3, h4, h5⟩ := h
  obtain ⟨p1, p2, p3, p4, p5⟩ := hp
  obtain ⟨v1, v2, v3, v4, v5, v6⟩ := hv
  generalize hx : sw (sw u 14 1 0) 14 0 (-1) = x at *
  have xfr : fr [6, 8, 14] st x := by rw [← hx]; exact (h1.sw (by decide)).sw (by decide)
  have x1 : x 14 1 = 0 := by rw [← hx, sw_na (by decide), sw_eq]
  have x2 : x 14 2 = st 14 2 + 1 := by rw [← hx, sw_na (by decide), sw_na (by decide), h3]
  have x6 : x 6 = u 6 := by rw [← hx, sw_ne (by decide), sw_ne (by decide)]
  have x8 : x 8 = u 8 := by rw [← hx, sw_ne (by decide), sw_ne (by decide)]
  have xpk : ∀ f : Int, 0 ≤ f → f < 6 → pk x f = st 11 f := fun f f0 f1 => by rw [pk, par, x2, x8, h5 f f0 f1]
  generalize hP : (st 14 2 + 1) % 2 = P at *
  generalize hw : sw (sw (sw v 14 0 a) 9 P a) 7 P (st 14 2 + 1) = w
  have wv : ∀ k : Nat, k ∉ [7, 9, 14] → w k = v k := fun k hk => by
    simp only [List.mem_cons, List.not_mem_nil, or_false, not_or] at hk
    rw [← hw, sw_ne hk.1, sw_ne hk.2.1, sw_ne hk.2.2]
  have wfr : fr [4, 6, 7, 8, 9, 13, 14] st w := fun k hk => by
    simp only [List.mem_cons, List.not_mem_nil, or_false, not_or] at hk
    rw [wv k (by simp [hk]), v3 k (by simp [hk]), xfr k (by simp [hk])]
  have w0 : w 14 0 = a := by rw [← hw, sw_ne (by decide), sw_ne (by decide), sw_eq]
  have w1 : w 14 1 = 0 := by rw [← hw, sw_ne (by decide), sw_ne (by decide), sw_na (by decide), v4 1 (by decide), x1]
  have w2 : w 14 2 = st 14 2 + 1 := by rw [← hw, sw_ne (by decide), sw_ne (by decide), sw_na (by decide), v4 2 (by decide), x2]
  have w3 : w 14 3 = v 14 3 := by rw [← hw, sw_ne (by decide), sw_ne (by decide), sw_na (by decide)]
  have wp : par w = P := by rw [par, w2, hP]
  have w9 : w 9 P = a := by rw [← hw, sw_ne (by decide), sw_eq]
  have w8 : w 8 = u 8 := by rw [wv 8 (by decide), v3 8 (by decide), x8]
  have wpk : ∀ f : Int, 0 ≤ f → f < 6 → pk w f = st 11 f := fun f f0 f1 => by rw [pk, wp, w8, h5 f f0 f1]
  have w6 : w 6 = fun b => if b = P then st 14 2 + 1 else st 6 b := by rw [wv 6 (by decide), v3 6 (by decide), x6, h4]
  have w7 : w 7 = fun b => if b = P then st 14 2 + 1 else st 7 b := by rw [← hw, sw_fun, sw_ne (by decide), sw_ne (by decide), v3 7 (by decide), xfr 7 (by decide)]
  have w4 : w 4 a = -1 := by rw [wv 4 (by decide), v6]; exact if_pos rfl
  have pP : par st = 1 - P := by unfold par; omega
  have P01 : P = 0 ∨ P = 1 := by omega
  refine ⟨wfr, fun f f0 f1 => ?_, by rw [w0]; exact v1, ⟨by rw [w1]; rfl, by decide⟩, by rw [w2]; omega, by rw [w3]; exact v5, fun i hi => absurd hi (Nat.not_lt_zero i), ?_, by rw [w0]; exact w4, fun f f0 f1 => ?_, fun f f0 f1 => ?_, ?_, fun f f0 f1 => ?_⟩
  · rw [okM_fr (wfr 2 (by decide)) (wfr 3 (by decide)), okM_fr (wfr 2 (by decide)) (wfr 3 (by decide)), okM_fr (wfr 2 (by decide)) (wfr 3 (by decide)), wpk f f0 f1, wfr 10 (by decide), wfr 11 (by decide)]
    exact ⟨(p1 f f0 f1).1, (p1 f f0 f1).2, (p1 f f0 f1).2⟩
  · show w 9 (par w) = w 14 0
    rw [wp, w9, w0]
  · show w 11 f = pk w f
    rw [wpk f f0 f1, wfr 11 (by decide)]
  · obtain ⟨q1, q2, q3⟩ := notNd v2 f0 f1 v1.1
    rw [xpk f f0 f1] at q3
    rw [wpk f f0 f1, w0, wfr 10 (by decide), wfr 11 (by decide)]
    rw [xfr 10 (by decide)] at q1
    exact ⟨q1, q3, q3⟩
  · rw [wp, w2, w6, w7]
    rw [pP] at p4
    rcases P01 with rfl | rfl
    · refine ⟨rfl, ?_, rfl, ?_, ?_⟩
      · simpa using p4.2.1
      · have := p4.2.2; simp at this ⊢; omega
      · have := p4.2.2; simp at this ⊢; omega
    · refine ⟨?_, rfl, rfl, ?_, ?_⟩
      · simpa using p4.1
      · have := p4.2.2; simp at this ⊢; omega
      · have := p4.2.2; simp at this ⊢; omega
  · rw [wfr 12 (by decide)]; exact p5 f f0 f1
/-- what checkpoint asks -/
def CPre (st : PS) : Prop := (∀ f : Int, 0 ≤ f → f < 6 → okM st (st 10 f)) ∧ (0 ≤ st 14 2 ∧ st 14 2 ≤ 900) ∧ (0 ≤ st 14 3 ∧ st 14 3 < 16) ∧ (st 6 0 = st 7 0 ∧ st 6 1 = st 7 1 ∧ st 7 (par st) = st 14 2)
def cpI (st : PS) (f : Int) (u : PS) : Prop := fr [11, 12] st u ∧ ∀ g : Int, 0 ≤ g → g < f → u 11 g = st 10 g ∧ u 12 g = 0
theorem cpI_s {st u : PS} {f : Int} (h : cpI st f u) : cpI st (f + 1) (sw (sw u 11 f (st 10 f)) 12 f 0) := by
  obtain ⟨h1, h2⟩ := h
  refine ⟨(h1.sw (by decide)).sw (by decide), fun g g0 g1 => ?_⟩
  by_cases hg : g = f
  · subst hg
    rw [sw_ne (by decide), sw_eq, sw_eq]; exact ⟨rfl, rfl⟩
  · rw [sw_na hg, sw_na hg, sw_na hg, sw_na hg]; exact h2 g g0 (by omega)
theorem cpI_w {st u : PS} (hp : CPre st) (h : cpI st 6 u) : WPre u := by
  obtain ⟨h1, h2⟩ := h
  obtain ⟨p1, p2, p3, p4⟩ := hp
  have e14 : u 14 = st 14 := h1 14 (by decide)
  refine ⟨fun f f0 f1 => ?_, by rw [e14]; exact p2, by rw [e14]; exact p3, ?_, fun f f0 f1 => Or.inl (h2 f f0 f1).2⟩
  · rw [okM_fr (h1 2 (by decide)) (h1 3 (by decide)), okM_fr (h1 2 (by decide)) (h1 3 (by decide)), h1 10 (by decide), (h2 f f0 f1).1]
    exact ⟨p1 f f0 f1, p1 f f0 f1⟩
  · rw [par, e14, h1 6 (by decide), h1 7 (by decide)]; exact p4
/-- what checkpoint does -/
def cpP (st u : PS) : Prop := fr [4, 6, 7, 8, 9, 11, 12, 13, 14] st u ∧ InvC (st 14 2 + 1) 0 u ∧ ∀ g : Int, 0 ≤ g → g < 6 → u 11 g = st 10 g ∧ u 12 g = 0
theorem cp_fin {st u w : PS} (h : cpI st 6 u) (hw : wpP u w) : cpP st w := by
  obtain ⟨h1, h2⟩ := h
  obtain ⟨w1, w2⟩ := hw
  refine ⟨fun k hk => ?_, by rw [h1 14 (by decide)] at w2; exact w2, fun g g0 g1 => ?_⟩
  · simp only [List.mem_cons, List.not_mem_nil, or_false, not_or] at hk
    rw [w1 k (by simp [hk]), h1 k (by simp [hk])]
  · rw [w1 11 (by decide), w1 12 (by decide)]; exact h2 g g0 g1
theorem sw_self (st : PS) (k : Nat) (a : Int) : sw st k a (st k a) = st := by
  funext k' a'
  by_cases h : k' = k ∧ a' = a
  · obtain ⟨rfl, rfl⟩ := h; exact sw_eq ..
  · simp [sw, h]
/-- what mount does -/
def moP (st u : PS) : Prop := fr [10, 11, 12, 14] st u ∧ (u 14 0 = st 14 0 ∧ u 14 1 = st 14 1 ∧ u 14 2 = st 14 2 ∧ u 14 3 = st 14 3) ∧ ∀ g : Int, 0 ≤ g → g < 6 → u 10 g = st 11 g ∧ u 11 g = st 11 g ∧ u 12 g = 0
def moA (st : PS) (f : Int) (u : PS) : Prop := fr [10, 12] st u ∧ ∀ g : Int, 0 ≤ g → g < f → u 10 g = pk st g ∧ u 12 g = 0
theorem moA_s {st u : PS} {f : Int} (h : moA st f u) : moA st (f + 1) (sw (sw u 10 f (pk st f)) 12 f 0) := by
  obtain ⟨h1, h2⟩ := h
  refine ⟨(h1.sw (by decide)).sw (by decide), fun g g0 g1 => ?_⟩
  by_cases hg : g = f
  · subst hg
    rw [sw_ne (by decide), sw_eq, sw_eq]; exact ⟨rfl, rfl⟩
  · rw [sw_na hg, sw_na hg, sw_na hg, sw_na hg]; exact h2 g g0 (by omega)
def moB (st : PS) (i : Nat) (u : PS) : Prop := fr [10, 12, 14] st u ∧ (u 14 0 = chn st i ∧ u 14 1 = i ∧ u 14 2 = st 14 2 ∧ u 14 3 = st 14 3) ∧ ∀ g : Int, 0 ≤ g → g < 6 → u 10 g = rl st g i ∧ u 12 g = 0
theorem moB_0 {st u : PS} (h : moA st 6 u) : moB st 0 (sw (sw u 14 0 (chn st 0)) 14 1 0) := by
  obtain ⟨h1, h2⟩ := h
  refine ⟨fun k hk => ?_, ⟨?_, ?_, ?_, ?_⟩, fun g g0 g1 => ?_⟩
  · simp only [List.mem_cons, List.not_mem_nil, or_false, not_or] at hk
    rw [sw_ne hk.2.2, sw_ne hk.2.2, h1 k (by simp [hk])]
  · rw [sw_na (by decide), sw_eq]
  · rw [sw_eq]; rfl
  · rw [sw_na (by decide), sw_na (by decide), h1 14 (by decide)]
  · rw [sw_na (by decide), sw_na (by decide), h1 14 (by decide)]
  · rw [sw_ne (by decide), sw_ne (by decide), sw_ne (by decide), sw_ne (by decide)]; exact h2 g g0 g1
theorem moB_s {st u : PS} {i : Nat} (h : moB st i u) : moB st (i + 1) (sw (sw (sw u 10 (st 1 (chn st i)) (chn st i)) 14 0 (chn st (i + 1))) 14 1 ((i : Int) + 1)) := by
  obtain ⟨h1, ⟨h2, h3, h4, h5⟩, h6⟩ := h
  refine ⟨((h1.sw (by decide)).sw (by decide)).sw (by decide), ⟨?_, ?_, ?_, ?_⟩, fun g g0 g1 => ?_⟩
  · rw [sw_na (by decide), sw_eq]
  · rw [sw_eq]; rfl
  · rw [sw_na (by decide), sw_na (by decide), sw_ne (by decide), h4]
  · rw [sw_na (by decide), sw_na (by decide), sw_ne (by decide), h5]
  · refine ⟨?_, by rw [sw_ne (by decide), sw_ne (by decide), sw_ne (by decide)]; exact (h6 g g0 g1).2⟩
    show _ = if st 1 (chn st i) = g then chn st i else rl st g i
    rw [sw_ne (by decide), sw_ne (by decide)]
    by_cases hg : st 1 (chn st i) = g
    · rw [if_pos hg, hg, sw_eq]
    · rw [if_neg hg, sw_na (fun e => hg e.symm)]; exact (h6 g g0 g1).1
def moC (u : PS) (f : Int) (w : PS) : Prop := fr [11] u w ∧ ∀ g : Int, 0 ≤ g → g < f → w 11 g = u 10 g
theorem moC_s {u w : PS} {f : Int} (h : moC u f w) : moC u (f + 1) (sw w 11 f (u 10 f)) := by
  obtain ⟨h1, h2⟩ := h
  refine ⟨h1.sw (by decide), fun g g0 g1 => ?_⟩
  by_cases hg : g = f
  · subst hg; exact sw_eq ..
  · rw [sw_na hg]; exact h2 g g0 (by omega)
theorem mo_fin {N : Int} {c : Nat} {st u w : PS} (hI : InvC N c st) (h : moB st c u) (hw : moC u 6 w) : moP st w := by
  obtain ⟨h1, ⟨h2, h3, h4, h5⟩, h6⟩ := h
  obtain ⟨w1, w2⟩ := hw
  obtain ⟨-, -, c1, -, -, -, c2, -, c3, -⟩ := hI
  refine ⟨fun k hk => ?_, ?_, fun g g0 g1 => ?_⟩
  · simp only [List.mem_cons, List.not_mem_nil, or_false, not_or] at hk
    rw [w1 k (by simp [hk]), h1 k (by simp [hk])]
  · rw [w1 14 (by decide), h2, h3, h4, h5, c2, c1.1]; exact ⟨rfl, rfl, rfl, rfl⟩
  · rw [w2 g g0 g1, w1 10 (by decide), w1 12 (by decide), (h6 g g0 g1).1, c3 g g0 g1]; exact ⟨rfl, rfl, (h6 g g0 g1).2⟩
end
section
set_option maxRecDepth 100000
set_option maxHeartbeats 4000000 in
/-- writePack(): a new pack, the chain begins anew -/
theorem mx_writePack (l : Launch) (D : va_G) (cI cB : ClassId) (h0 : Nat) (ad : Nat → Nat) (st : PS) (hp : WPre st) : MV l D cI cB (xw h0 ad cI cB) yX0_writePack cX0_writePack 3 3 68 [.ref h0] st (wpP st) := by
  refine MV_of (by decide +kernel) (Nat.le_of_ble_eq_true rfl) (fun E hF hret => ?_)
  have hF : JF E l cX0_writePack RX0 3 (rmo 3 68) D cI cB := hF
  show J E 0 0 (xw h0 ad cI cB st) 0 [(0, .ref h0)] []
  have p2 := hp.2.1
  obtain ⟨P, hP⟩ : ∃ P : Int, P = (st 14 2 + 1) % 2 := ⟨_, rfl⟩
  have loop : ∀ (n : Nat) (f : Int) (u : PS), 6 - f < (n : Int) → 0 ≤ f → f ≤ 6 → wpI st f u → J E 0 0 (xw h0 ad cI cB u) 29 [(0, .ref h0), (1, iv ((st 14 2 + 1) % 2)), (2, iv f)] [] := by
    intro n
    induction n with
    | zero => intro f u hm f0 f1 hI; omega
    | succ n ih =>
      intro f u hm f0 f1 hI
      have g := hI.1
      refine j_iload_n hF dX0_writePack_29 rfl 2 rfl ?_
      refine j_bipush hF dX0_writePack_30 (by decide) ?_
      refine j_icmp_ge hF 58 dX0_writePack_32 (by decide) (by omega) (by omega) (fun c1 => ?_) (fun c1 => ?_)
      · have e : f = 6 := by omega
        subst e
        refine j_aload_n hF dX0_writePack_58 rfl 0 rfl ?_
        refine j_iconst hF dX0_writePack_59 ?_
        refine xps1 hF dX0_writePack_60 ?_
        refine j_aload_n hF dX0_writePack_63 rfl 0 rfl ?_
        refine j_iconst hF dX0_writePack_64 ?_
        refine xps0 hF dX0_writePack_65 ?_
        refine j_aload_n hF dX0_writePack_68 rfl 0 rfl ?_
        refine j_aload_n hF dX0_writePack_69 rfl 0 rfl ?_
        refine j_calli (As := []) (n := 0) hF (mx_fresh l D cI cB h0 ad _ (wpI_sv hp hI)) (lw_V q35 q37 qs2 q17 q38) (by decide +kernel) (by decide) ⟨Nat.le_of_ble_eq_true rfl, Nat.le_of_ble_eq_true rfl⟩ rfl 0 rfl rfl rfl [.ref h0] rfl (by simp [Value.category]) dX0_writePack_70 (fun a v hv => ?_)
        have e2 : v 14 2 = st 14 2 + 1 := by rw [hv.2.2.2.1 2 (by decide), sw_na (by decide), sw_na (by decide), hI.2.2.1]
        refine xps0 hF dX0_writePack_73 ?_
        refine j_aload_n hF dX0_writePack_76 rfl 0 rfl ?_
        refine xg9 hF dX0_writePack_77 ?_
        refine j_iload_n hF dX0_writePack_80 rfl 1 rfl ?_
        refine j_aload_n hF dX0_writePack_81 rfl 0 rfl ?_
        refine xgs0 hF dX0_writePack_82 ?_
        refine j_top (b := a) (by rw [sw_eq]) ?_
        refine xs9 hF dX0_writePack_85 (by omega) ?_
        refine j_aload_n hF dX0_writePack_86 rfl 0 rfl ?_
        refine xg7 hF dX0_writePack_87 ?_
        refine j_iload_n hF dX0_writePack_90 rfl 1 rfl ?_
        refine j_aload_n hF dX0_writePack_91 rfl 0 rfl ?_
        refine xgs2 hF dX0_writePack_92 ?_
        refine j_top (b := st 14 2 + 1) (by rw [sw_ne (by decide), sw_na (by decide), e2]) ?_
        refine xs7 hF dX0_writePack_95 (by omega) ?_
        exact hret _ _ _ dX0_writePack_96 (wp_fin hp hI hv)
      · refine j_aload_n hF dX0_writePack_35 rfl 0 rfl ?_
        refine xg8 hF dX0_writePack_36 ?_
        refine j_iload_n hF dX0_writePack_39 rfl 1 rfl ?_
        refine j_bipush hF dX0_writePack_40 (by decide) ?_
        refine j_imul hF dX0_writePack_42 ?_
        refine j_iload_n hF dX0_writePack_43 rfl 2 rfl ?_
        refine j_iadd hF dX0_writePack_44 ?_
        refine j_aload_n hF dX0_writePack_45 rfl 0 rfl ?_
        refine xg11 hF dX0_writePack_46 ?_
        refine j_iload_n hF dX0_writePack_49 rfl 2 rfl ?_
        refine xl11 hF dX0_writePack_50 (by omega) ?_
        refine j_top (b := st 11 f) (by rw [g 11 (by decide)]) ?_
        refine xs8 hF dX0_writePack_51 (by omega) ?_
        refine j_iinc hF [(0, .ref h0), (1, iv ((st 14 2 + 1) % 2)), (2, iv (f + 1))] dX0_writePack_52 2 rfl (by decide) [1, 2, 0] rfl ?_
        refine j_goto hF 29 dX0_writePack_55 (by decide) ?_
        exact ih (f + 1) _ (by omega) (by omega) (by omega) (wpI_s hI f0)
  refine j_aload_n hF dX0_writePack_0 rfl 0 rfl ?_
  refine j_dup hF dX0_writePack_1 rfl ?_
  refine xgs2 hF dX0_writePack_2 ?_
  refine j_iconst hF dX0_writePack_5 ?_
  refine j_iadd hF dX0_writePack_6 ?_
  refine xps2 hF dX0_writePack_7 ?_
  refine j_aload_n hF dX0_writePack_10 rfl 0 rfl ?_
  refine xgs2 hF dX0_writePack_11 ?_
  refine j_top (b := st 14 2 + 1) (by rw [sw_eq]) ?_
  refine j_iconst hF dX0_writePack_14 ?_
  refine j_and1 hF dX0_writePack_15 ?_
  refine j_istore_n hF [(0, .ref h0), (1, iv ((st 14 2 + 1) % 2))] dX0_writePack_16 rfl (by decide) [1, 0] rfl ?_
  refine j_aload_n hF dX0_writePack_17 rfl 0 rfl ?_
  refine xg6 hF dX0_writePack_18 ?_
  refine j_iload_n hF dX0_writePack_21 rfl 1 rfl ?_
  refine j_aload_n hF dX0_writePack_22 rfl 0 rfl ?_
  refine xgs2 hF dX0_writePack_23 ?_
  refine j_top (b := st 14 2 + 1) (by rw [sw_eq]) ?_
  refine xs6 hF dX0_writePack_26 (by omega) ?_
  refine j_iconst hF dX0_writePack_27 ?_
  refine j_istore_n hF [(0, .ref h0), (1, iv ((st 14 2 + 1) % 2)), (2, iv 0)] dX0_writePack_28 rfl (by decide) [1, 2, 0] rfl ?_
  exact loop 7 0 _ (by omega) (by omega) (by omega) (wpI_0 st)
set_option maxHeartbeats 4000000 in
/-- checkpoint(): all files last as they are now -/
theorem mx_checkpoint (l : Launch) (D : va_G) (cI cB : ClassId) (h0 : Nat) (ad : Nat → Nat) (st : PS) (hp : CPre st) : MV l D cI cB (xw h0 ad cI cB) yX0_checkpoint cX0_checkpoint 2 4 90 [.ref h0] st (cpP st) := by
  refine MV_of (by decide +kernel) (Nat.le_of_ble_eq_true rfl) (fun E hF hret => ?_)
  have hF : JF E l cX0_checkpoint RX0 2 (rmo 4 90) D cI cB := hF
  show J E 0 0 (xw h0 ad cI cB st) 0 [(0, .ref h0)] []
  have loop : ∀ (n : Nat) (f : Int) (u : PS), 6 - f < (n : Int) → 0 ≤ f → f ≤ 6 → cpI st f u → J E 0 0 (xw h0 ad cI cB u) 2 [(0, .ref h0), (1, iv f)] [] := by
    intro n
    induction n with
    | zero => intro f u hm f0 f1 hI; omega
    | succ n ih =>
      intro f u hm f0 f1 hI
      have g := hI.1
      refine j_iload_n hF dX0_checkpoint_2 rfl 1 rfl ?_
      refine j_bipush hF dX0_checkpoint_3 (by decide) ?_
      refine j_icmp_ge hF 33 dX0_checkpoint_5 (by decide) (by omega) (by omega) (fun c1 => ?_) (fun c1 => ?_)
      · have e : f = 6 := by omega
        subst e
        refine j_aload_n hF dX0_checkpoint_33 rfl 0 rfl ?_
        refine j_callv (As := []) (n := 0) hF (mx_writePack l D cI cB h0 ad u (cpI_w hp hI)) (lw_V q31 q33 qs1 q17 q34) (by decide +kernel) (by decide) ⟨Nat.le_of_ble_eq_true rfl, Nat.le_of_ble_eq_true rfl⟩ rfl 0 rfl rfl rfl [] rfl (by simp [Value.category]) dX0_checkpoint_34 (fun w hw => ?_)
        exact hret w _ _ dX0_checkpoint_37 (cp_fin hI hw)
      · refine j_aload_n hF dX0_checkpoint_8 rfl 0 rfl ?_
        refine xg11 hF dX0_checkpoint_9 ?_
        refine j_iload_n hF dX0_checkpoint_12 rfl 1 rfl ?_
        refine j_aload_n hF dX0_checkpoint_13 rfl 0 rfl ?_
        refine xg10 hF dX0_checkpoint_14 ?_
        refine j_iload_n hF dX0_checkpoint_17 rfl 1 rfl ?_
        refine xl10 hF dX0_checkpoint_18 (by omega) ?_
        refine j_top (b := st 10 f) (by rw [g 10 (by decide)]) ?_
        refine xs11 hF dX0_checkpoint_19 (by omega) ?_
        refine j_aload_n hF dX0_checkpoint_20 rfl 0 rfl ?_
        refine xg12 hF dX0_checkpoint_21 ?_
        refine j_iload_n hF dX0_checkpoint_24 rfl 1 rfl ?_
        refine j_iconst hF dX0_checkpoint_25 ?_
        refine xs12 hF dX0_checkpoint_26 (by omega) (Or.inl rfl) ?_
        refine j_iinc hF [(0, .ref h0), (1, iv (f + 1))] dX0_checkpoint_27 1 rfl (by decide) [1, 0] rfl ?_
        refine j_goto hF 2 dX0_checkpoint_30 (by decide) ?_
        exact ih (f + 1) _ (by omega) (by omega) (by omega) (cpI_s hI)
  refine j_iconst hF dX0_checkpoint_0 ?_
  refine j_istore_n hF [(0, .ref h0), (1, iv 0)] dX0_checkpoint_1 rfl (by decide) [1, 0] rfl ?_
  exact loop 7 0 st (by omega) (by omega) (by omega) ⟨fr.rf, fun g g0 g1 => by omega⟩
set_option maxHeartbeats 4000000 in
/-- mount(): the files as they last -/
theorem mx_mount (l : Launch) (D : va_G) (cI cB : ClassId) (h0 : Nat) (ad : Nat → Nat) (st : PS) (N : Int) (c : Nat) (hN : N ≤ 900) (hI : InvC N c st) : MV l D cI cB (xw h0 ad cI cB) yX0_mount cX0_mount 3 0 0 [.ref h0] st (moP st) := by
  refine MV_of (by decide +kernel) (Nat.le_of_ble_eq_true rfl) (fun E hF hret => ?_)
  have hF : JF E l cX0_mount RX0 3 (rmo 0 0) D cI cB := hF
  show J E 0 0 (xw h0 ad cI cB st) 0 [(0, .ref h0)] []
  have hI0 := hI
  obtain ⟨iA, iB, iC, iD, iE, iF, iG, iH, iI, iK, ⟨l1, l2, l3, l4, l5⟩, iY⟩ := hI0
  have hpar := par_in st
  have loop3 : ∀ (n : Nat) (f : Int) (u w : PS), 6 - f < (n : Int) → 0 ≤ f → f ≤ 6 → moB st c u → moC u f w → J E 0 0 (xw h0 ad cI cB w) 185 [(0, .ref h0), (1, iv (par st)), (2, iv f)] [] := by
    intro n
    induction n with
    | zero => intro f u w hm f0 f1 hu hw; omega
    | succ n ih =>
      intro f u w hm f0 f1 hu hw
      have g := hw.1
      refine j_iload_n hF dX0_mount_185 rfl 2 rfl ?_
      refine j_bipush hF dX0_mount_186 (by decide) ?_
      refine j_icmp_ge hF 209 dX0_mount_188 (by decide) (by omega) (by omega) (fun c1 => ?_) (fun c1 => ?_)
      · have e : f = 6 := by omega
        subst e
        exact hret w _ _ dX0_mount_209 (mo_fin hI hu hw)
      · refine j_aload_n hF dX0_mount_191 rfl 0 rfl ?_
        refine xg11 hF dX0_mount_192 ?_
        refine j_iload_n hF dX0_mount_195 rfl 2 rfl ?_
        refine j_aload_n hF dX0_mount_196 rfl 0 rfl ?_
        refine xg10 hF dX0_mount_197 ?_
        refine j_iload_n hF dX0_mount_200 rfl 2 rfl ?_
        refine xl10 hF dX0_mount_201 (by omega) ?_
        refine j_top (b := u 10 f) (by rw [g 10 (by decide)]) ?_
        refine xs11 hF dX0_mount_202 (by omega) ?_
        refine j_iinc hF [(0, .ref h0), (1, iv (par st)), (2, iv (f + 1))] dX0_mount_203 2 rfl (by decide) [1, 2, 0] rfl ?_
        refine j_goto hF 185 dX0_mount_206 (by decide) ?_
        exact ih (f + 1) u _ (by omega) (by omega) (by omega) hu (moC_s hw)
  have tail : ∀ (u : PS) (f : Int), moB st c u → J E 0 0 (xw h0 ad cI cB u) 183 [(0, .ref h0), (1, iv (par st)), (2, iv f)] [] := by
    intro u f hu
    refine j_iconst hF dX0_mount_183 ?_
    refine j_istore_n hF [(0, .ref h0), (1, iv (par st)), (2, iv 0)] dX0_mount_184 rfl (by decide) [1, 2, 0] rfl ?_
    exact loop3 7 0 u u (by omega) (by omega) (by omega) hu ⟨fr.rf, fun g g0 g1 => by omega⟩
  have loop2 : ∀ (n : Nat) (i : Nat) (u : PS), (c : Int) - (i : Int) < (n : Int) → i ≤ c → moB st i u → J E 0 0 (xw h0 ad cI cB u) 114 [(0, .ref h0), (1, iv (par st)), (2, iv (i : Int))] [] := by
    intro n
    induction n with
    | zero => intro i u hm hi hu; omega
    | succ n ih =>
      intro i u hm hi hu
      obtain ⟨g, ⟨g0, g1, g2, g3⟩, g4⟩ := id hu
      have hr : 0 ≤ chn st i ∧ chn st i < 128 := by
        rcases Nat.lt_or_ge i c with h | h
        · exact (iF i h).1
        · have e : i = c := by omega
          rw [e, iG]; exact iB
      have hmk : (i < c ∧ st 4 (chn st i) = st 14 2) ∨ (i = c ∧ st 4 (chn st i) = -1) := by
        rcases Nat.lt_or_ge i c with h | h
        · exact Or.inl ⟨h, (iF i h).2.1⟩
        · have e : i = c := by omega
          exact Or.inr ⟨e, by rw [e, iG]; exact iH⟩
      refine j_iload_n hF dX0_mount_114 rfl 2 rfl ?_
      refine j_bipush hF dX0_mount_115 (by decide) ?_
      refine j_icmp_ge hF 183 dX0_mount_117 (by decide) (by omega) (by omega) (fun c1 => ?_) (fun c1 => ?_)
      · have e : i = c := by omega
        subst e
        exact tail u _ hu
      · refine j_aload_n hF dX0_mount_120 rfl 0 rfl ?_
        refine xg4 hF dX0_mount_121 ?_
        refine j_aload_n hF dX0_mount_124 rfl 0 rfl ?_
        refine xgs0 hF dX0_mount_125 ?_
        refine j_top (b := chn st i) (g0) ?_
        refine xl4 hF dX0_mount_128 (by omega) ?_
        refine j_top (b := st 4 (chn st i)) (by rw [g 4 (by decide)]) ?_
        refine j_aload_n hF dX0_mount_129 rfl 0 rfl ?_
        refine xgs2 hF dX0_mount_130 ?_
        refine j_top (b := st 14 2) (g2) ?_
        refine j_icmp_ne hF 183 dX0_mount_133 (by decide) (by omega) (by omega) (fun c2 => ?_) (fun c2 => ?_)
        · have e : i = c := by omega
          subst e
          exact tail u _ hu
        · have hlt : i < c := by omega
          obtain ⟨-, -, m3, -⟩ := iF i hlt
          refine j_aload_n hF dX0_mount_136 rfl 0 rfl ?_
          refine xg10 hF dX0_mount_137 ?_
          refine j_aload_n hF dX0_mount_140 rfl 0 rfl ?_
          refine xg1 hF dX0_mount_141 ?_
          refine j_aload_n hF dX0_mount_144 rfl 0 rfl ?_
          refine xgs0 hF dX0_mount_145 ?_
          refine j_top (b := chn st i) (g0) ?_
          refine xl1 hF dX0_mount_148 (by omega) ?_
          refine j_top (b := st 1 (chn st i)) (by rw [g 1 (by decide)]) ?_
          refine j_aload_n hF dX0_mount_149 rfl 0 rfl ?_
          refine xgs0 hF dX0_mount_150 ?_
          refine j_top (b := chn st i) (g0) ?_
          refine xs10 hF dX0_mount_153 (by omega) ?_
          refine j_aload_n hF dX0_mount_154 rfl 0 rfl ?_
          refine j_aload_n hF dX0_mount_155 rfl 0 rfl ?_
          refine xg5 hF dX0_mount_156 ?_
          refine j_aload_n hF dX0_mount_159 rfl 0 rfl ?_
          refine xgs0 hF dX0_mount_160 ?_
          refine j_top (b := chn st i) (by rw [sw_ne (by decide), g0]) ?_
          refine xl5 hF dX0_mount_163 (by omega) ?_
          refine j_top (b := chn st (i + 1)) (by rw [sw_ne (by decide), g 5 (by decide)]; rfl) ?_
          refine xps0 hF dX0_mount_164 ?_
          refine j_aload_n hF dX0_mount_167 rfl 0 rfl ?_
          refine j_dup hF dX0_mount_168 rfl ?_
          refine xgs1 hF dX0_mount_169 ?_
          refine j_top (b := (i : Int)) (by rw [sw_na (by decide), sw_ne (by decide), g1]) ?_
          refine j_iconst hF dX0_mount_172 ?_
          refine j_iadd hF dX0_mount_173 ?_
          refine xps1 hF dX0_mount_174 ?_
          refine j_iinc hF [(0, .ref h0), (1, iv (par st)), (2, iv ((i : Int) + 1))] dX0_mount_177 2 rfl (by decide) [1, 2, 0] rfl ?_
          refine j_goto hF 114 dX0_mount_180 (by decide) ?_
          exact ih (i + 1) _ (by omega) (by omega) (moB_s hu)
  have loop1 : ∀ (n : Nat) (f : Int) (u : PS), 6 - f < (n : Int) → 0 ≤ f → f ≤ 6 → moA st f u → J E 0 0 (xw h0 ad cI cB u) 61 [(0, .ref h0), (1, iv (par st)), (2, iv f)] [] := by
    intro n
    induction n with
    | zero => intro f u hm f0 f1 hu; omega
    | succ n ih =>
      intro f u hm f0 f1 hu
      have g := hu.1
      refine j_iload_n hF dX0_mount_61 rfl 2 rfl ?_
      refine j_bipush hF dX0_mount_62 (by decide) ?_
      refine j_icmp_ge hF 97 dX0_mount_64 (by decide) (by omega) (by omega) (fun c1 => ?_) (fun c1 => ?_)
      · have e : f = 6 := by omega
        subst e
        refine j_aload_n hF dX0_mount_97 rfl 0 rfl ?_
        refine j_aload_n hF dX0_mount_98 rfl 0 rfl ?_
        refine xg9 hF dX0_mount_99 ?_
        refine j_iload_n hF dX0_mount_102 rfl 1 rfl ?_
        refine xl9 hF dX0_mount_103 (by omega) ?_
        refine j_top (b := chn st 0) (by rw [g 9 (by decide)]; rfl) ?_
        refine xps0 hF dX0_mount_104 ?_
        refine j_aload_n hF dX0_mount_107 rfl 0 rfl ?_
        refine j_iconst hF dX0_mount_108 ?_
        refine xps1 hF dX0_mount_109 ?_
        refine j_iconst hF dX0_mount_112 ?_
        refine j_istore_n hF [(0, .ref h0), (1, iv (par st)), (2, iv 0)] dX0_mount_113 rfl (by decide) [1, 2, 0] rfl ?_
        exact loop2 21 0 _ (by omega) (by omega) (moB_0 hu)
      · refine j_aload_n hF dX0_mount_67 rfl 0 rfl ?_
        refine xg10 hF dX0_mount_68 ?_
        refine j_iload_n hF dX0_mount_71 rfl 2 rfl ?_
        refine j_aload_n hF dX0_mount_72 rfl 0 rfl ?_
        refine xg8 hF dX0_mount_73 ?_
        refine j_iload_n hF dX0_mount_76 rfl 1 rfl ?_
        refine j_bipush hF dX0_mount_77 (by decide) ?_
        refine j_imul hF dX0_mount_79 ?_
        refine j_iload_n hF dX0_mount_80 rfl 2 rfl ?_
        refine j_iadd hF dX0_mount_81 ?_
        refine xl8 hF dX0_mount_82 (by omega) ?_
        refine j_top (b := pk st f) (by rw [g 8 (by decide)]; rfl) ?_
        refine xs10 hF dX0_mount_83 (by omega) ?_
        refine j_aload_n hF dX0_mount_84 rfl 0 rfl ?_
        refine xg12 hF dX0_mount_85 ?_
        refine j_iload_n hF dX0_mount_88 rfl 2 rfl ?_
        refine j_iconst hF dX0_mount_89 ?_
        refine xs12 hF dX0_mount_90 (by omega) (Or.inl rfl) ?_
        refine j_iinc hF [(0, .ref h0), (1, iv (par st)), (2, iv (f + 1))] dX0_mount_91 2 rfl (by decide) [1, 2, 0] rfl ?_
        refine j_goto hF 61 dX0_mount_94 (by decide) ?_
        exact ih (f + 1) _ (by omega) (by omega) (by omega) (moA_s hu)
  have at49 : ∀ q : Int, q = par st → J E 0 0 (xw h0 ad cI cB st) 49 [(0, .ref h0), (1, iv q)] [] := by
    intro q hq
    subst hq
    refine j_aload_n hF dX0_mount_49 rfl 0 rfl ?_
    refine j_aload_n hF dX0_mount_50 rfl 0 rfl ?_
    refine xg7 hF dX0_mount_51 ?_
    refine j_iload_n hF dX0_mount_54 rfl 1 rfl ?_
    refine xl7 hF dX0_mount_55 (by omega) ?_
    refine j_top (b := st 14 2) (l3) ?_
    refine xps2 hF dX0_mount_56 ?_
    rw [sw_self]
    refine j_iconst hF dX0_mount_59 ?_
    refine j_istore_n hF [(0, .ref h0), (1, iv (par st)), (2, iv 0)] dX0_mount_60 rfl (by decide) [1, 2, 0] rfl ?_
    exact loop1 7 0 st (by omega) (by omega) (by omega) ⟨fr.rf, fun g g0 g1 => by omega⟩
  have q0 : 0 ≤ st 7 0 ∧ st 7 0 ≤ 900 := by
    rcases hpar with h | h <;> rw [h] at l3 l4 l5 <;> simp at l4 l5 <;> omega
  have q1 : 0 ≤ st 7 1 ∧ st 7 1 ≤ 900 := by
    rcases hpar with h | h <;> rw [h] at l3 l4 l5 <;> simp at l4 l5 <;> omega
  refine j_iconst hF dX0_mount_0 ?_
  refine j_istore_n hF [(0, .ref h0), (1, iv 0)] dX0_mount_1 rfl (by decide) [1, 0] rfl ?_
  refine j_aload_n hF dX0_mount_2 rfl 0 rfl ?_
  refine xg6 hF dX0_mount_3 ?_
  refine j_iconst hF dX0_mount_6 ?_
  refine xl6 hF dX0_mount_7 (by omega) ?_
  refine j_aload_n hF dX0_mount_8 rfl 0 rfl ?_
  refine xg7 hF dX0_mount_9 ?_
  refine j_iconst hF dX0_mount_12 ?_
  refine xl7 hF dX0_mount_13 (by omega) ?_
  refine j_icmp_ne hF 49 dX0_mount_14 (by decide) (by omega) (by omega) (fun c1 => ?_) (fun c1 => ?_)
  · exact absurd l2 c1
  · refine j_aload_n hF dX0_mount_17 rfl 0 rfl ?_
    refine xg6 hF dX0_mount_18 ?_
    refine j_iconst hF dX0_mount_21 ?_
    refine xl6 hF dX0_mount_22 (by omega) ?_
    refine j_aload_n hF dX0_mount_23 rfl 0 rfl ?_
    refine xg7 hF dX0_mount_24 ?_
    refine j_iconst hF dX0_mount_27 ?_
    refine xl7 hF dX0_mount_28 (by omega) ?_
    refine j_icmp_ne hF 47 dX0_mount_29 (by decide) (by omega) (by omega) (fun c2 => ?_) (fun c2 => ?_)
    · exact absurd l1 c2
    · refine j_aload_n hF dX0_mount_32 rfl 0 rfl ?_
      refine xg7 hF dX0_mount_33 ?_
      refine j_iconst hF dX0_mount_36 ?_
      refine xl7 hF dX0_mount_37 (by omega) ?_
      refine j_aload_n hF dX0_mount_38 rfl 0 rfl ?_
      refine xg7 hF dX0_mount_39 ?_
      refine j_iconst hF dX0_mount_42 ?_
      refine xl7 hF dX0_mount_43 (by omega) ?_
      refine j_icmp_le hF 49 dX0_mount_44 (by decide) (by omega) (by omega) (fun c3 => ?_) (fun c3 => ?_)
      · refine at49 0 ?_
        rcases hpar with h | h
        · exact h.symm
        · rw [h] at l3 l4; simp at l4; omega
      · refine j_iconst hF dX0_mount_47 ?_
        refine j_istore_n hF [(0, .ref h0), (1, iv 1)] dX0_mount_48 rfl (by decide) [1, 0] rfl ?_
        refine at49 1 ?_
        rcases hpar with h | h
        · rw [h] at l3 l4; simp at l4; omega
        · exact h.symm
end
section
/-- the blocks that stay needed when f gets a new node -/
def Pr (st : PS) (f b : Int) : Prop := (∃ g : Int, 0 ≤ g ∧ g < 6 ∧ ((g ≠ f ∧ inN st (st 10 g) b) ∨ inN st (st 11 g) b ∨ inN st (pk st g) b)) ∨ b = st 14 0 ∨ ∃ i : Nat, (i : Int) < st 14 1 ∧ b = chn st i
/-- f has the new node block n; what else is needed is as it was -/
def nnQ (st : PS) (f n : Int) (u : PS) : Prop := (0 ≤ n ∧ n < 128) ∧ ¬ Nd st n ∧ fr [0, 1, 2, 3, 4, 10, 13, 14] st u ∧ (∀ j : Int, j ≠ 3 → u 14 j = st 14 j) ∧ (0 ≤ u 14 3 ∧ u 14 3 < 16) ∧ (u 10 = fun g => if g = f then n else st 10 g) ∧ (∀ b : Int, b ≠ n → u 1 b = st 1 b ∧ u 2 b = st 2 b) ∧ (∀ a : Int, a < n * 4 ∨ n * 4 + 4 ≤ a → u 3 a = st 3 a) ∧ ∀ b : Int, Pr st f b → u 4 b = st 4 b ∧ u 0 b = st 0 b
theorem Pr_Nd {st : PS} {f b : Int} (hc : 0 ≤ st 14 0) (h : Pr st f b) : Nd st b := by
  rcases h with ⟨g, g0, g1, h⟩ | h | h
  · refine Or.inl ⟨g, g0, g1, ?_⟩
    rcases h with ⟨-, h⟩ | h | h
    · exact Or.inl h
    · exact Or.inr (Or.inl h)
    · exact Or.inr (Or.inr h)
  · exact Or.inr (Or.inl ⟨by omega, h⟩)
  · exact Or.inr (Or.inr h)
/-- a node apart from n, where u differs from st at n alone -/
theorem ag {st u : PS} {m n : Int} (hm : okM st m) (hne : m ≠ n) (h2 : u 2 m = st 2 m) (h3 : ∀ a : Int, a < n * 4 ∨ n * 4 + 4 ≤ a → u 3 a = st 3 a) : (∀ b : Int, inN u m b ↔ inN st m b) ∧ okM u m ∧ ∀ i : Int, 0 ≤ i → i < 4 → u 3 (m * 4 + i) = st 3 (m * 4 + i) := by
  have e : ∀ i : Int, 0 ≤ i → i < 4 → u 3 (m * 4 + i) = st 3 (m * 4 + i) := fun i i0 i1 => h3 _ (by omega)
  rcases hm with rfl | ⟨o1, o2, o3, o4, o5⟩
  · exact ⟨fun b => ⟨fun h => absurd rfl h.1, fun h => absurd rfl h.1⟩, Or.inl rfl, e⟩
  · refine ⟨fun b => ?_, Or.inr ⟨o1, o2, by rw [h2]; exact o3, by rw [h2]; exact o4, fun i i0 i1 => ?_⟩, e⟩
    · constructor
      · rintro ⟨h, h' | ⟨i, i0, i1, h'⟩⟩
        · exact ⟨h, Or.inl h'⟩
        · rw [h2] at i1; rw [e i i0 (by omega)] at h'; exact ⟨h, Or.inr ⟨i, i0, i1, h'⟩⟩
      · rintro ⟨h, h' | ⟨i, i0, i1, h'⟩⟩
        · exact ⟨h, Or.inl h'⟩
        · exact ⟨h, Or.inr ⟨i, i0, by rw [h2]; exact i1, by rw [e i i0 (by omega)]; exact h'⟩⟩
    · rw [h2] at i1; rw [e i i0 (by omega)]; exact o5 i i0 i1
theorem chn_fr {st u : PS} (h5 : u 5 = st 5) (h9 : u 9 = st 9) (h2 : u 14 2 = st 14 2) (i : Nat) : chn u i = chn st i := by
  induction i with
  | zero => show u 9 (par u) = st 9 (par st); rw [h9, par, par, h2]
  | succ i ih => show u 5 (chn u i) = st 5 (chn st i); rw [ih, h5]
theorem pk_fr {st u : PS} (h8 : u 8 = st 8) (h2 : u 14 2 = st 14 2) (f : Int) : pk u f = pk st f := by rw [pk, pk, h8, par, par, h2]
theorem rl_fr {st u : PS} (hc : ∀ i : Nat, chn u i = chn st i) (hp : ∀ f : Int, pk u f = pk st f) (c : Nat) (h1 : ∀ i : Nat, i < c → u 1 (chn st i) = st 1 (chn st i)) (f : Int) : ∀ i : Nat, i ≤ c → rl u f i = rl st f i := by
  intro i
  induction i with
  | zero => intro _; exact hp f
  | succ i ih =>
    intro hi
    show (if u 1 (chn u i) = f then chn u i else rl u f i) = if st 1 (chn st i) = f then chn st i else rl st f i
    rw [hc i, h1 i (by omega), ih (by omega)]
section
variable {N : Int} {c : Nat} {st u v : PS} {f n a : Int}
theorem nnQ_p (h : nnQ st f n u) : par u = par st := by rw [par, par, h.2.2.2.1 2 (by decide)]
theorem nnQ_ne (hI : InvC N c st) (h : nnQ st f n u) : (∀ g : Int, 0 ≤ g → g < 6 → st 10 g ≠ n ∧ st 11 g ≠ n ∧ pk st g ≠ n) ∧ st 14 0 ≠ n ∧ ∀ i : Nat, i < c → chn st i ≠ n := by
  refine ⟨fun g g0 g1 => notNd h.2.1 g0 g1 h.1.1, fun e => h.2.1 (Or.inr (Or.inl ⟨by have := hI.2.1; omega, e.symm⟩)), fun i hi e => h.2.1 (Or.inr (Or.inr ⟨i, by have := hI.2.2.1.1; omega, e.symm⟩))⟩
theorem nnQ_ag (hI : InvC N c st) (h : nnQ st f n u) {m : Int} (hm : okM st m) (hne : m ≠ n) : (∀ b : Int, inN u m b ↔ inN st m b) ∧ okM u m ∧ ∀ i : Int, 0 ≤ i → i < 4 → u 3 (m * 4 + i) = st 3 (m * 4 + i) :=
  ag hm hne (h.2.2.2.2.2.2.1 m hne).2 h.2.2.2.2.2.2.2.1
theorem nnQ_Nd (hI : InvC N c st) (h : nnQ st f n u) {b : Int} (hb : Pr st f b) : Nd u b := by
  obtain ⟨n1, n2, n3⟩ := nnQ_ne hI h
  have hA := hI.1
  have e14 := h.2.2.2.1
  have e10 := h.2.2.2.2.2.1
  rcases hb with ⟨g, g0, g1, hb⟩ | hb | ⟨i, hi, hb⟩
  · obtain ⟨o1, o2, o3⟩ := hA g g0 g1
    obtain ⟨m1, m2, m3⟩ := n1 g g0 g1
    refine Or.inl ⟨g, g0, g1, ?_⟩
    rcases hb with ⟨hg, hb⟩ | hb | hb
    · refine Or.inl ?_
      rw [e10, show (fun g => if g = f then n else st 10 g) g = st 10 g from if_neg hg]
      exact ((nnQ_ag hI h o1 m1).1 b).mpr hb
    · refine Or.inr (Or.inl ?_)
      rw [h.2.2.1 11 (by decide)]
      exact ((nnQ_ag hI h o2 m2).1 b).mpr hb
    · refine Or.inr (Or.inr ?_)
      rw [pk_fr (h.2.2.1 8 (by decide)) (e14 2 (by decide))]
      exact ((nnQ_ag hI h o3 m3).1 b).mpr hb
  · exact Or.inr (Or.inl ⟨by rw [e14 0 (by decide)]; have := hI.2.1; omega, by rw [e14 0 (by decide)]; exact hb⟩)
  · exact Or.inr (Or.inr ⟨i, by rw [e14 1 (by decide)]; exact hi, by rw [chn_fr (h.2.2.1 5 (by decide)) (h.2.2.1 9 (by decide)) (e14 2 (by decide))]; exact hb⟩)
theorem nnQ_inv (hI : InvC N c st) (h : nnQ st f n u) (hn : okN u n) : InvC N c u := by
  obtain ⟨n1, n2, n3⟩ := nnQ_ne hI h
  have hag := fun {m : Int} => nnQ_ag (m := m) hI h
  obtain ⟨iA, iB, iC, iD, iE, iF, iG, iH, iI, iK, iL, iY⟩ := hI
  obtain ⟨q1, q2, q3, q4, q5, q6, q7, q8, q9⟩ := h
  have ec : ∀ i : Nat, chn u i = chn st i := chn_fr (q3 5 (by decide)) (q3 9 (by decide)) (q4 2 (by decide))
  have ep : ∀ f : Int, pk u f = pk st f := pk_fr (q3 8 (by decide)) (q4 2 (by decide))
  have e0 := q4 0 (by decide)
  have e1 := q4 1 (by decide)
  have e2 := q4 2 (by decide)
  have epar : par u = par st := by rw [par, par, e2]
  have em : ∀ b : Int, Pr st f b → u 4 b = st 4 b := fun b hb => (q9 b hb).1
  refine ⟨fun g g0 g1 => ?_, by rw [e0]; exact iB, by rw [e1]; exact iC, by rw [e2]; exact iD, q5, fun i hi => ?_, ?_, ?_, fun g g0 g1 => ?_, fun g g0 g1 => ?_, ?_, fun g g0 g1 => ?_⟩
  · obtain ⟨o1, o2, o3⟩ := iA g g0 g1
    obtain ⟨m1, m2, m3⟩ := n1 g g0 g1
    refine ⟨?_, ?_, ?_⟩
    · rw [q6]
      by_cases hg : g = f
      · show okM u (if g = f then n else st 10 g)
        rw [if_pos hg]; exact Or.inr hn
      · show okM u (if g = f then n else st 10 g)
        rw [if_neg hg]; exact (hag o1 m1).2.1
    · rw [q3 11 (by decide)]; exact (hag o2 m2).2.1
    · rw [ep]; exact (hag o3 m3).2.1
  · obtain ⟨f1, f2, f3, f4⟩ := iF i hi
    rw [ec, e0, e2, em _ (Or.inr (Or.inr ⟨i, by omega, rfl⟩)), (q7 _ (n3 i hi)).1]
    exact ⟨f1, f2, f3, f4⟩
  · rw [ec, e0]; exact iG
  · rw [e0, em _ (Or.inr (Or.inl rfl))]; exact iH
  · rw [q3 11 (by decide), rl_fr ec ep c (fun i hi => (q7 _ (n3 i hi)).1) g c (Nat.le_refl c)]; exact iI g g0 g1
  · obtain ⟨k1, k2, k3⟩ := iK g g0 g1
    rw [e0, ep, q3 11 (by decide), q6]
    refine ⟨?_, k2, k3⟩
    show (if g = f then n else st 10 g) ≠ st 14 0
    by_cases hg : g = f
    · rw [if_pos hg]; exact fun e => n2 e.symm
    · rw [if_neg hg]; exact k1
  · rw [epar, e2, q3 6 (by decide), q3 7 (by decide)]; exact iL
  · rw [q3 12 (by decide)]; exact iY g g0 g1
theorem nnQ_wn {size old : Int} (hI : InvC N c st) (h : wnP st f size old n u) : nnQ st f n u := by
  obtain ⟨q1, q2, q3, q4, q5, q6, q7, q8, q9, q10, q11⟩ := h
  refine ⟨q1, q2, fun k hk => ?_, q4, q5, q9, fun b hb => ?_, q11, fun b hb => ?_⟩
  · simp only [List.mem_cons, List.not_mem_nil, or_false, not_or] at hk
    exact q3 k (by simp [hk])
  · rw [q7, q8]; exact ⟨if_neg hb, if_neg hb⟩
  · have hb2 : b ≠ n := fun e => q2 (e ▸ Pr_Nd (by have := hI.2.1; omega) hb)
    rw [q6, q3 0 (by decide)]; exact ⟨if_neg hb2, rfl⟩
theorem nnQ_fre (hI : InvC N c st) (h : nnQ st f n u) (hv : freP u a v) : nnQ st f n v := by
  have hnd : ∀ b : Int, Pr st f b → b ≠ a := fun b hb e => hv.2.1 (e ▸ nnQ_Nd hI h hb)
  obtain ⟨q1, q2, q3, q4, q5, q6, q7, q8, q9⟩ := h
  obtain ⟨v1, v2, v3, v4, v5, v6⟩ := hv
  refine ⟨q1, q2, fun k hk => ?_, fun j hj => ?_, v5, ?_, ?_, ?_, fun b hb => ?_⟩
  · simp only [List.mem_cons, List.not_mem_nil, or_false, not_or] at hk
    rw [v3 k (by simp [hk]), q3 k (by simp [hk])]
  · rw [v4 j hj, q4 j hj]
  · rw [v3 10 (by decide)]; exact q6
  · rw [v3 1 (by decide), v3 2 (by decide)]; exact q7
  · rw [v3 3 (by decide)]; exact q8
  · rw [v6, v3 0 (by decide)]
    exact ⟨(if_neg (hnd b hb)).trans (q9 b hb).1, (q9 b hb).2⟩
theorem nnQ_0 {w : Int} (h : nnQ st f n u) (hnd : ∀ b : Int, Pr st f b → b ≠ a) : nnQ st f n (sw u 0 a w) := by
  obtain ⟨q1, q2, q3, q4, q5, q6, q7, q8, q9⟩ := h
  refine ⟨q1, q2, q3.sw (by decide), ?_, ?_, ?_, ?_, ?_, fun b hb => ?_⟩
  · rw [sw_ne (by decide)]; exact q4
  · rw [sw_ne (by decide)]; exact q5
  · rw [sw_ne (by decide)]; exact q6
  · rw [sw_ne (by decide), sw_ne (by decide)]; exact q7
  · rw [sw_ne (by decide)]; exact q8
  · rw [sw_ne (by decide), sw_na (hnd b hb)]; exact q9 b hb
theorem nnQ_2 {w : Int} (h : nnQ st f n u) : nnQ st f n (sw u 2 n w) := by
  obtain ⟨q1, q2, q3, q4, q5, q6, q7, q8, q9⟩ := h
  refine ⟨q1, q2, q3.sw (by decide), ?_, ?_, ?_, fun b hb => ?_, ?_, ?_⟩
  · rw [sw_ne (by decide)]; exact q4
  · rw [sw_ne (by decide)]; exact q5
  · rw [sw_ne (by decide)]; exact q6
  · rw [sw_ne (by decide), sw_na hb]; exact q7 b hb
  · rw [sw_ne (by decide)]; exact q8
  · rw [sw_ne (by decide), sw_ne (by decide)]; exact q9
theorem nnQ_3 {w i : Int} (h : nnQ st f n u) (i0 : 0 ≤ i) (i1 : i < 4) : nnQ st f n (sw u 3 (n * 4 + i) w) := by
  obtain ⟨q1, q2, q3, q4, q5, q6, q7, q8, q9⟩ := h
  refine ⟨q1, q2, q3.sw (by decide), ?_, ?_, ?_, ?_, fun a ha => ?_, ?_⟩
  · rw [sw_ne (by decide)]; exact q4
  · rw [sw_ne (by decide)]; exact q5
  · rw [sw_ne (by decide)]; exact q6
  · rw [sw_ne (by decide), sw_ne (by decide)]; exact q7
  · rw [sw_na (by omega)]; exact q8 a ha
  · rw [sw_ne (by decide), sw_ne (by decide)]; exact q9
/-- f has the new node n with sz words, the word k is w k -/
def rpP (st : PS) (f n sz : Int) (w : Int → Int) (u : PS) : Prop := nnQ st f n u ∧ okN u n ∧ u 2 n = sz ∧ ∀ k : Int, 0 ≤ k → k < sz → u 0 (u 3 (n * 4 + k)) = w k
/-- a node with no words -/
theorem rp_new {old : Int} {w : Int → Int} (hI : InvC N c st) (h : wnP st f 0 old n u) : rpP st f n 0 w u := by
  have e2 : u 2 n = 0 := by rw [h.2.2.2.2.2.2.2.1]; exact if_pos rfl
  refine ⟨nnQ_wn hI h, ⟨h.1.1, h.1.2, by omega, by omega, fun i i0 i1 => by omega⟩, e2, fun k k0 k1 => by omega⟩
/-- a node with the first words of the old one -/
theorem rp_cut {m : Int} (hI : InvC N c st) (f0 : 0 ≤ f) (f1 : f < 6) (ho : st 10 f ≠ -1) (m0 : 0 ≤ m) (m1 : m ≤ st 2 (st 10 f)) (h : wnP st f m (st 10 f) n u) : rpP st f n m (fun k => st 0 (st 3 (st 10 f * 4 + k))) u := by
  have e2 : u 2 n = m := by rw [h.2.2.2.2.2.2.2.1]; exact if_pos rfl
  obtain ⟨o1, o2, o3, o4, o5⟩ := (hI.1 f f0 f1).1.resolve_left ho
  have e3 : ∀ k : Int, 0 ≤ k → k < m → u 3 (n * 4 + k) = st 3 (st 10 f * 4 + k) := fun k k0 k1 => by
    rw [h.2.2.2.2.2.2.2.2.2.1 k k0 (by omega), wnv, if_pos ⟨ho, by omega⟩]
  refine ⟨nnQ_wn hI h, ⟨h.1.1, h.1.2, by omega, by omega, fun i i0 i1 => ?_⟩, e2, fun k k0 k1 => ?_⟩
  · rw [e3 i i0 (by omega)]; exact o5 i i0 (by omega)
  · rw [e3 k k0 k1, h.2.2.1 0 (by decide)]
end
end
section
section
variable {N : Int} {c : Nat} {st u v : PS} {f n a : Int}
theorem fre_ne (hv : freP u a v) {f' : Int} (f0 : 0 ≤ f') (f1 : f' < 6) {k : Int} (hn : u 10 f' = n) (n1 : n ≠ -1) (k0 : 0 ≤ k) (k1 : k < u 2 n) : u 3 (n * 4 + k) ≠ a := fun e =>
  hv.2.1 (Or.inl ⟨f', f0, f1, Or.inl ⟨by omega, Or.inr ⟨k, k0, by rw [hn]; exact k1, by rw [hn]; exact e.symm⟩⟩⟩)
theorem nnQ_10 (h : nnQ st f n u) : u 10 f = n := by rw [h.2.2.2.2.2.1]; exact if_pos rfl
/-- one more word behind the others -/
theorem rp_step {i : Int} {W : Int → Int} (hI : InvC N c st) (f0 : 0 ≤ f) (f1 : f < 6) (h : rpP st f n i W u) (hi : i < 4) (hv : freP u a v) : rpP st f n (i + 1) W (sw (sw (sw v 0 a (W i)) 3 (n * 4 + i) a) 2 n (i + 1)) := by
  obtain ⟨q, o, e2, w⟩ := h
  obtain ⟨o1, o2, o3, o4, o5⟩ := o
  have hnd : ∀ b : Int, Pr st f b → b ≠ a := fun b hb e => hv.2.1 (e ▸ nnQ_Nd hI q hb)
  have qv := nnQ_fre hI q hv
  have hq : nnQ st f n (sw (sw (sw v 0 a (W i)) 3 (n * 4 + i) a) 2 n (i + 1)) := nnQ_2 (nnQ_3 (nnQ_0 qv hnd) (by omega) hi)
  have v3 : v 3 = u 3 := hv.2.2.1 3 (by decide)
  have v0 : v 0 = u 0 := hv.2.2.1 0 (by decide)
  have x2 : sw (sw (sw v 0 a (W i)) 3 (n * 4 + i) a) 2 n (i + 1) 2 n = i + 1 := sw_eq ..
  have x3 : ∀ k : Int, sw (sw (sw v 0 a (W i)) 3 (n * 4 + i) a) 2 n (i + 1) 3 (n * 4 + k) = if k = i then a else u 3 (n * 4 + k) := fun k => by
    rw [sw_ne (by decide)]
    by_cases hk : k = i
    · rw [if_pos hk, hk, sw_eq]
    · rw [if_neg hk, sw_na (by omega), sw_ne (by decide), v3]
  have x0 : ∀ b : Int, sw (sw (sw v 0 a (W i)) 3 (n * 4 + i) a) 2 n (i + 1) 0 b = if b = a then W i else u 0 b := fun b => by
    rw [sw_ne (by decide), sw_ne (by decide)]
    by_cases hb : b = a
    · rw [if_pos hb, hb, sw_eq]
    · rw [if_neg hb, sw_na hb, v0]
  refine ⟨hq, ⟨o1, o2, by rw [x2]; omega, by rw [x2]; omega, fun k k0 k1 => ?_⟩, x2, fun k k0 k1 => ?_⟩
  · rw [x2] at k1
    rw [x3]
    by_cases hk : k = i
    · rw [if_pos hk]; exact hv.1
    · rw [if_neg hk]; exact o5 k k0 (by omega)
  · rw [x3, x0]
    by_cases hk : k = i
    · rw [if_pos hk, if_pos rfl, hk]
    · rw [if_neg hk, if_neg (fre_ne hv f0 f1 (nnQ_10 q) (by omega) k0 (by omega)), w k k0 (by omega)]
/-- write: the node made, its place i not yet written -/
def wrM (st : PS) (f i sz n : Int) (u : PS) : Prop := nnQ st f n u ∧ okN u n ∧ u 2 n = sz ∧ u 0 = st 0 ∧ ∀ k : Int, 0 ≤ k → k < sz → k ≠ i → u 3 (n * 4 + k) = st 3 (st 10 f * 4 + k)
theorem wr_mid {i sz : Int} (hI : InvC N c st) (f0 : 0 ≤ f) (f1 : f < 6) (ho : st 10 f ≠ -1) (i0 : 0 ≤ i) (i1 : i ≤ st 2 (st 10 f)) (i4 : i < 4) (hsz : sz = if i = st 2 (st 10 f) then i + 1 else st 2 (st 10 f)) (h : wnP st f sz (st 10 f) n u) : wrM st f i sz n (sw (sw u 2 n sz) 3 (n * 4 + i) n) := by
  obtain ⟨o1, o2, o3, o4, o5⟩ := (hI.1 f f0 f1).1.resolve_left ho
  have hs : i < sz ∧ sz ≤ 4 ∧ ∀ k : Int, k < sz → k ≠ i → k < st 2 (st 10 f) := by
    by_cases e : i = st 2 (st 10 f)
    · rw [if_pos e] at hsz; exact ⟨by omega, by omega, fun k h1 h2 => by omega⟩
    · rw [if_neg e] at hsz; exact ⟨by omega, by omega, fun k h1 h2 => by omega⟩
  have q := nnQ_wn hI h
  have hn := h.1
  have x2 : sw (sw u 2 n sz) 3 (n * 4 + i) n 2 n = sz := by rw [sw_ne (by decide), sw_eq]
  have x3 : ∀ k : Int, 0 ≤ k → k < sz → k ≠ i → sw (sw u 2 n sz) 3 (n * 4 + i) n 3 (n * 4 + k) = st 3 (st 10 f * 4 + k) := fun k k0 k1 k2 => by
    rw [sw_na (by omega), sw_ne (by decide), h.2.2.2.2.2.2.2.2.2.1 k k0 (by omega), wnv, if_pos ⟨ho, hs.2.2 k k1 k2⟩]
  refine ⟨nnQ_3 (nnQ_2 q) i0 i4, ⟨hn.1, hn.2, by rw [x2]; omega, by rw [x2]; omega, fun k k0 k1 => ?_⟩, x2, ?_, x3⟩
  · rw [x2] at k1
    by_cases hk : k = i
    · rw [hk, sw_eq]; exact hn
    · rw [x3 k k0 k1 hk]; exact o5 k k0 (hs.2.2 k k1 hk)
  · rw [sw_ne (by decide), sw_ne (by decide), h.2.2.1 0 (by decide)]
theorem wr_fin {i sz w : Int} (hI : InvC N c st) (f0 : 0 ≤ f) (f1 : f < 6) (i0 : 0 ≤ i) (i4 : i < 4) (h : wrM st f i sz n u) (hv : freP u a v) : rpP st f n sz (fun k => if k = i then w else st 0 (st 3 (st 10 f * 4 + k))) (sw (sw v 0 a w) 3 (n * 4 + i) a) := by
  obtain ⟨q, o, e2, e0, e3⟩ := h
  obtain ⟨o1, o2, o3, o4, o5⟩ := o
  have hnd : ∀ b : Int, Pr st f b → b ≠ a := fun b hb e => hv.2.1 (e ▸ nnQ_Nd hI q hb)
  have qv := nnQ_fre hI q hv
  have v3 : v 3 = u 3 := hv.2.2.1 3 (by decide)
  have v2 : v 2 = u 2 := hv.2.2.1 2 (by decide)
  have v0 : v 0 = u 0 := hv.2.2.1 0 (by decide)
  have x2 : sw (sw v 0 a w) 3 (n * 4 + i) a 2 n = sz := by rw [sw_ne (by decide), sw_ne (by decide), v2, e2]
  have x3 : ∀ k : Int, sw (sw v 0 a w) 3 (n * 4 + i) a 3 (n * 4 + k) = if k = i then a else u 3 (n * 4 + k) := fun k => by
    by_cases hk : k = i
    · rw [if_pos hk, hk, sw_eq]
    · rw [if_neg hk, sw_na (by omega), sw_ne (by decide), v3]
  have x0 : ∀ b : Int, sw (sw v 0 a w) 3 (n * 4 + i) a 0 b = if b = a then w else u 0 b := fun b => by
    rw [sw_ne (by decide)]
    by_cases hb : b = a
    · rw [if_pos hb, hb, sw_eq]
    · rw [if_neg hb, sw_na hb, v0]
  refine ⟨nnQ_3 (nnQ_0 qv hnd) i0 i4, ⟨o1, o2, by rw [x2]; omega, by rw [x2]; omega, fun k k0 k1 => ?_⟩, x2, fun k k0 k1 => ?_⟩
  · rw [x2] at k1
    rw [x3]
    by_cases hk : k = i
    · rw [if_pos hk]; exact hv.1
    · rw [if_neg hk]; exact o5 k k0 (by omega)
  · rw [x3, x0]
    show _ = if k = i then w else st 0 (st 3 (st 10 f * 4 + k))
    by_cases hk : k = i
    · rw [if_pos hk, if_pos rfl, if_pos hk]
    · rw [if_neg hk, if_neg (fre_ne hv f0 f1 (nnQ_10 q) (by omega) k0 (by omega)), if_neg hk, e0, e3 k k0 k1 hk]
end
/-! what the calls of NodeTableFiles answer and do -/
def fOk (f : Int) : Prop := 0 ≤ f ∧ f < 6
def xCreate (st : PS) (f a : Int) (u : PS) : Prop := (¬ fOk f ∧ a = -1 ∧ u = st) ∨ (fOk f ∧ st 10 f ≠ -1 ∧ a = -3 ∧ u = st) ∨ (fOk f ∧ st 10 f = -1 ∧ a = 0 ∧ ∃ (n : Int) (u' : PS), rpP st f n 0 (fun _ => 0) u' ∧ u = sw u' 12 f 1)
def xRemove (st : PS) (f a : Int) (u : PS) : Prop := (¬ fOk f ∧ a = -1 ∧ u = st) ∨ (fOk f ∧ st 10 f = -1 ∧ a = -3 ∧ u = st) ∨ (fOk f ∧ st 10 f ≠ -1 ∧ a = st 2 (st 10 f) ∧ u = sw (sw st 10 f (-1)) 12 f 0)
def xWrite (st : PS) (f i w a : Int) (u : PS) : Prop := (¬ fOk f ∧ a = -1 ∧ u = st) ∨ (fOk f ∧ st 10 f = -1 ∧ a = -3 ∧ u = st) ∨ (fOk f ∧ st 10 f ≠ -1 ∧ (i < 0 ∨ st 2 (st 10 f) < i ∨ i = 4) ∧ a = -1 ∧ u = st) ∨ (fOk f ∧ st 10 f ≠ -1 ∧ ¬ (i < 0 ∨ st 2 (st 10 f) < i ∨ i = 4) ∧ (a = if i = st 2 (st 10 f) then i + 1 else st 2 (st 10 f)) ∧ ∃ n : Int, rpP st f n a (fun k => if k = i then w else st 0 (st 3 (st 10 f * 4 + k))) u)
def xTruncate (st : PS) (f m a : Int) (u : PS) : Prop := (¬ fOk f ∧ a = -1 ∧ u = st) ∨ (fOk f ∧ st 10 f = -1 ∧ a = -3 ∧ u = st) ∨ (fOk f ∧ st 10 f ≠ -1 ∧ (m < 0 ∨ st 2 (st 10 f) < m) ∧ a = -1 ∧ u = st) ∨ (fOk f ∧ st 10 f ≠ -1 ∧ ¬ (m < 0 ∨ st 2 (st 10 f) < m) ∧ a = st 2 (st 10 f) ∧ ∃ n : Int, rpP st f n m (fun k => st 0 (st 3 (st 10 f * 4 + k))) u)
def xCopy (st : PS) (f g a : Int) (u : PS) : Prop := (¬ (fOk f ∧ fOk g) ∧ a = -1 ∧ u = st) ∨ ((fOk f ∧ fOk g) ∧ (st 10 f = -1 ∨ st 10 g = -1) ∧ a = -3 ∧ u = st) ∨ ((fOk f ∧ fOk g) ∧ ¬ (st 10 f = -1 ∨ st 10 g = -1) ∧ f = g ∧ a = st 2 (st 10 g) ∧ u = st) ∨ ((fOk f ∧ fOk g) ∧ ¬ (st 10 f = -1 ∨ st 10 g = -1) ∧ f ≠ g ∧ a = st 2 (st 10 g) ∧ ∃ n : Int, rpP st f n (st 2 (st 10 g)) (fun k => st 0 (st 3 (st 10 g * 4 + k))) u)
end
section
set_option maxRecDepth 100000
set_option maxHeartbeats 4000000 in
/-- create(f) -/
theorem mx_create (l : Launch) (D : va_G) (cI cB : ClassId) (h0 : Nat) (ad : Nat → Nat) (st : PS) (N : Int) (c : Nat) (f : Int) (hN : N ≤ 900) (hI : InvC N c st) (hf : -2147483648 ≤ f ∧ f ≤ 2147483647) : MI l D cI cB (xw h0 ad cI cB) yX0_create cX0_create 2 (some .int) 4 96 [.ref h0, iv f] st (xCreate st f) := by
  refine MI_of (by decide +kernel) (Nat.le_of_ble_eq_true rfl) (fun E hF hret => ?_)
  have hF : JF E l cX0_create RX0 2 (rmo 4 96) D cI cB := hF
  show J E 0 0 (xw h0 ad cI cB st) 0 [(0, .ref h0), (1, iv f)] []
  have hsv := hI.sv (by omega)
  have hN9 := hI.2.2.2.1
  refine j_aload_n hF dX0_create_0 rfl 0 rfl ?_
  refine j_iload_n hF dX0_create_1 rfl 1 rfl ?_
  refine j_calli (As := [iv f]) (n := 1) hF (mx_bad l D cI cB h0 ad st f hf) (lw_V q112 q114 qs6 q17 q115) (by decide +kernel) (by decide) ⟨Nat.le_of_ble_eq_true rfl, Nat.le_of_ble_eq_true rfl⟩ rfl 0 rfl rfl rfl [] rfl (by simp [Value.category]) dX0_create_2 (fun k u_k hb => ?_)
  obtain ⟨e_k, hb⟩ := hb
  rw [e_k]
  refine j_if_eq hF 10 dX0_create_5 (by decide) (by omega) (fun c0 => ?_) (fun c0 => ?_)
  · have hk : fOk f := by
      rcases hb with h | h
      · exact ⟨h.1, h.2.1⟩
      · omega
    obtain ⟨f0, f1⟩ := hk
    have o1 := (hI.1 f f0 f1).1
    have r1 := o1.rg
    refine j_aload_n hF dX0_create_10 rfl 0 rfl ?_
    refine xg10 hF dX0_create_11 ?_
    refine j_iload_n hF dX0_create_14 rfl 1 rfl ?_
    refine xl10 hF dX0_create_15 (by omega) ?_
    refine j_iconst hF dX0_create_16 ?_
    refine j_icmp_eq hF 23 dX0_create_17 (by decide) (by omega) (by omega) (fun c1 => ?_) (fun c1 => ?_)
    · refine j_aload_n hF dX0_create_23 rfl 0 rfl ?_
      refine j_iload_n hF dX0_create_24 rfl 1 rfl ?_
      refine j_iconst hF dX0_create_25 ?_
      refine j_iconst hF dX0_create_26 ?_
      refine j_iconst hF dX0_create_27 ?_
      refine j_iconst hF dX0_create_28 ?_
      refine j_callv (As := [iv f, iv 0, iv (-1), iv (-1), iv (-1)]) (n := 5) hF (mx_writeNode l D cI cB h0 ad st f 0 (-1) hsv ⟨f0, f1⟩ (Or.inl rfl)) (lw_V q116 q118 qs7 q17 q119) (by decide +kernel) (by decide) ⟨Nat.le_of_ble_eq_true rfl, Nat.le_of_ble_eq_true rfl⟩ rfl 0 rfl rfl rfl [] rfl (by simp [Value.category]) dX0_create_29 (fun u hu => ?_)
      obtain ⟨n, hu⟩ := hu
      refine j_aload_n hF dX0_create_32 rfl 0 rfl ?_
      refine xg12 hF dX0_create_33 ?_
      refine j_iload_n hF dX0_create_36 rfl 1 rfl ?_
      refine j_iconst hF dX0_create_37 ?_
      refine xs12 hF dX0_create_38 (by omega) (Or.inr rfl) ?_
      refine j_iconst hF dX0_create_39 ?_
      exact hret 0 _ _ _ dX0_create_40 (Or.inr (Or.inr ⟨⟨f0, f1⟩, c1, rfl, n, u, rp_new hI hu, rfl⟩))
    · refine j_bipush hF dX0_create_20 (by decide) ?_
      exact hret (-3) st _ _ dX0_create_22 (Or.inr (Or.inl ⟨⟨f0, f1⟩, c1, rfl, rfl⟩))
  · have hk : ¬ fOk f := by
      rcases hb with h | h
      · omega
      · exact h.1
    refine j_iconst hF dX0_create_8 ?_
    exact hret (-1) st _ _ dX0_create_9 (Or.inl ⟨hk, rfl, rfl⟩)
set_option maxHeartbeats 4000000 in
/-- remove(f) -/
theorem mx_remove (l : Launch) (D : va_G) (cI cB : ClassId) (h0 : Nat) (ad : Nat → Nat) (st : PS) (N : Int) (c : Nat) (f : Int) (hN : N ≤ 900) (hI : InvC N c st) (hf : -2147483648 ≤ f ∧ f ≤ 2147483647) : MI l D cI cB (xw h0 ad cI cB) yX0_remove cX0_remove 3 (some .int) 1 21 [.ref h0, iv f] st (xRemove st f) := by
  refine MI_of (by decide +kernel) (Nat.le_of_ble_eq_true rfl) (fun E hF hret => ?_)
  have hF : JF E l cX0_remove RX0 3 (rmo 1 21) D cI cB := hF
  show J E 0 0 (xw h0 ad cI cB st) 0 [(0, .ref h0), (1, iv f)] []
  have hsv := hI.sv (by omega)
  have hN9 := hI.2.2.2.1
  refine j_aload_n hF dX0_remove_0 rfl 0 rfl ?_
  refine j_iload_n hF dX0_remove_1 rfl 1 rfl ?_
  refine j_calli (As := [iv f]) (n := 1) hF (mx_bad l D cI cB h0 ad st f hf) (lw_V q112 q114 qs6 q17 q115) (by decide +kernel) (by decide) ⟨Nat.le_of_ble_eq_true rfl, Nat.le_of_ble_eq_true rfl⟩ rfl 0 rfl rfl rfl [] rfl (by simp [Value.category]) dX0_remove_2 (fun k u_k hb => ?_)
  obtain ⟨e_k, hb⟩ := hb
  rw [e_k]
  refine j_if_eq hF 10 dX0_remove_5 (by decide) (by omega) (fun c0 => ?_) (fun c0 => ?_)
  · have hk : fOk f := by
      rcases hb with h | h
      · exact ⟨h.1, h.2.1⟩
      · omega
    obtain ⟨f0, f1⟩ := hk
    have o1 := (hI.1 f f0 f1).1
    have r1 := o1.rg
    refine j_aload_n hF dX0_remove_10 rfl 0 rfl ?_
    refine xg10 hF dX0_remove_11 ?_
    refine j_iload_n hF dX0_remove_14 rfl 1 rfl ?_
    refine xl10 hF dX0_remove_15 (by omega) ?_
    refine j_iconst hF dX0_remove_16 ?_
    refine j_icmp_ne hF 23 dX0_remove_17 (by decide) (by omega) (by omega) (fun c1 => ?_) (fun c1 => ?_)
    · obtain ⟨k1, k2, k3, k4, k5⟩ := o1.resolve_left c1
      refine j_aload_n hF dX0_remove_23 rfl 0 rfl ?_
      refine xg2 hF dX0_remove_24 ?_
      refine j_aload_n hF dX0_remove_27 rfl 0 rfl ?_
      refine xg10 hF dX0_remove_28 ?_
      refine j_iload_n hF dX0_remove_31 rfl 1 rfl ?_
      refine xl10 hF dX0_remove_32 (by omega) ?_
      refine xl2 hF dX0_remove_33 (by omega) ?_
      refine j_istore_n hF [(0, .ref h0), (1, iv f), (2, iv (st 2 (st 10 f)))] dX0_remove_34 rfl (by decide) [1, 2, 0] rfl ?_
      refine j_aload_n hF dX0_remove_35 rfl 0 rfl ?_
      refine xg10 hF dX0_remove_36 ?_
      refine j_iload_n hF dX0_remove_39 rfl 1 rfl ?_
      refine j_iconst hF dX0_remove_40 ?_
      refine xs10 hF dX0_remove_41 (by omega) ?_
      refine j_aload_n hF dX0_remove_42 rfl 0 rfl ?_
      refine xg12 hF dX0_remove_43 ?_
      refine j_iload_n hF dX0_remove_46 rfl 1 rfl ?_
      refine j_iconst hF dX0_remove_47 ?_
      refine xs12 hF dX0_remove_48 (by omega) (Or.inl rfl) ?_
      refine j_iload_n hF dX0_remove_49 rfl 2 rfl ?_
      exact hret (st 2 (st 10 f)) _ _ _ dX0_remove_50 (Or.inr (Or.inr ⟨⟨f0, f1⟩, c1, rfl, rfl⟩))
    · refine j_bipush hF dX0_remove_20 (by decide) ?_
      exact hret (-3) st _ _ dX0_remove_22 (Or.inr (Or.inl ⟨⟨f0, f1⟩, c1, rfl, rfl⟩))
  · have hk : ¬ fOk f := by
      rcases hb with h | h
      · omega
      · exact h.1
    refine j_iconst hF dX0_remove_8 ?_
    exact hret (-1) st _ _ dX0_remove_9 (Or.inl ⟨hk, rfl, rfl⟩)
set_option maxHeartbeats 4000000 in
/-- truncate(f, m) -/
theorem mx_truncate (l : Launch) (D : va_G) (cI cB : ClassId) (h0 : Nat) (ad : Nat → Nat) (st : PS) (N : Int) (c : Nat) (f m : Int) (hN : N ≤ 900) (hI : InvC N c st) (hf : -2147483648 ≤ f ∧ f ≤ 2147483647) (hm : -2147483648 ≤ m ∧ m ≤ 2147483647) : MI l D cI cB (xw h0 ad cI cB) yX0_truncate cX0_truncate 5 (some .int) 4 96 [.ref h0, iv f, iv m] st (xTruncate st f m) := by
  refine MI_of (by decide +kernel) (Nat.le_of_ble_eq_true rfl) (fun E hF hret => ?_)
  have hF : JF E l cX0_truncate RX0 5 (rmo 4 96) D cI cB := hF
  show J E 0 0 (xw h0 ad cI cB st) 0 [(0, .ref h0), (1, iv f), (2, iv m)] []
  have hsv := hI.sv (by omega)
  have hN9 := hI.2.2.2.1
  refine j_aload_n hF dX0_truncate_0 rfl 0 rfl ?_
  refine j_iload_n hF dX0_truncate_1 rfl 1 rfl ?_
  refine j_calli (As := [iv f]) (n := 1) hF (mx_bad l D cI cB h0 ad st f hf) (lw_V q112 q114 qs6 q17 q115) (by decide +kernel) (by decide) ⟨Nat.le_of_ble_eq_true rfl, Nat.le_of_ble_eq_true rfl⟩ rfl 0 rfl rfl rfl [] rfl (by simp [Value.category]) dX0_truncate_2 (fun k u_k hb => ?_)
  obtain ⟨e_k, hb⟩ := hb
  rw [e_k]
  refine j_if_eq hF 10 dX0_truncate_5 (by decide) (by omega) (fun c0 => ?_) (fun c0 => ?_)
  · have hk : fOk f := by
      rcases hb with h | h
      · exact ⟨h.1, h.2.1⟩
      · omega
    obtain ⟨f0, f1⟩ := hk
    have o1 := (hI.1 f f0 f1).1
    have r1 := o1.rg
    refine j_aload_n hF dX0_truncate_10 rfl 0 rfl ?_
    refine xg10 hF dX0_truncate_11 ?_
    refine j_iload_n hF dX0_truncate_14 rfl 1 rfl ?_
    refine xl10 hF dX0_truncate_15 (by omega) ?_
    refine j_istore_n hF [(0, .ref h0), (1, iv f), (2, iv m), (3, iv (st 10 f))] dX0_truncate_16 rfl (by decide) [1, 2, 3, 0] rfl ?_
    refine j_iload_n hF dX0_truncate_17 rfl 3 rfl ?_
    refine j_iconst hF dX0_truncate_18 ?_
    refine j_icmp_ne hF 25 dX0_truncate_19 (by decide) (by omega) (by omega) (fun c1 => ?_) (fun c1 => ?_)
    · obtain ⟨k1, k2, k3, k4, k5⟩ := o1.resolve_left c1
      refine j_aload_n hF dX0_truncate_25 rfl 0 rfl ?_
      refine xg2 hF dX0_truncate_26 ?_
      refine j_iload_n hF dX0_truncate_29 rfl 3 rfl ?_
      refine xl2 hF dX0_truncate_30 (by omega) ?_
      refine j_istore hF [(0, .ref h0), (1, iv f), (2, iv m), (3, iv (st 10 f)), (4, iv (st 2 (st 10 f)))] dX0_truncate_31 (by decide) [1, 2, 3, 4, 0] rfl ?_
      refine j_iload_n hF dX0_truncate_33 rfl 2 rfl ?_
      refine j_if_lt hF 43 dX0_truncate_34 (by decide) (by omega) (fun c2 => ?_) (fun c2 => ?_)
      · refine j_iconst hF dX0_truncate_43 ?_
        exact hret (-1) st _ _ dX0_truncate_44 (Or.inr (Or.inr (Or.inl ⟨⟨f0, f1⟩, c1, by omega, rfl, rfl⟩)))
      · refine j_iload_n hF dX0_truncate_37 rfl 2 rfl ?_
        refine j_iload hF dX0_truncate_38 4 rfl ?_
        refine j_icmp_le hF 45 dX0_truncate_40 (by decide) (by omega) (by omega) (fun c3 => ?_) (fun c3 => ?_)
        · refine j_aload_n hF dX0_truncate_45 rfl 0 rfl ?_
          refine j_iload_n hF dX0_truncate_46 rfl 1 rfl ?_
          refine j_iload_n hF dX0_truncate_47 rfl 2 rfl ?_
          refine j_iload_n hF dX0_truncate_48 rfl 3 rfl ?_
          refine j_iconst hF dX0_truncate_49 ?_
          refine j_iconst hF dX0_truncate_50 ?_
          refine j_callv (As := [iv f, iv m, iv (st 10 f), iv (-1), iv (-1)]) (n := 5) hF (mx_writeNode l D cI cB h0 ad st f m (st 10 f) hsv ⟨f0, f1⟩ (Or.inr rfl)) (lw_V q116 q118 qs7 q17 q119) (by decide +kernel) (by decide) ⟨Nat.le_of_ble_eq_true rfl, Nat.le_of_ble_eq_true rfl⟩ rfl 0 rfl rfl rfl [] rfl (by simp [Value.category]) dX0_truncate_51 (fun u hu => ?_)
          obtain ⟨n, hu⟩ := hu
          refine j_iload hF dX0_truncate_54 4 rfl ?_
          exact hret (st 2 (st 10 f)) u _ _ dX0_truncate_56 (Or.inr (Or.inr (Or.inr ⟨⟨f0, f1⟩, c1, by omega, rfl, n, rp_cut hI f0 f1 c1 (by omega) (by omega) hu⟩)))
        · refine j_iconst hF dX0_truncate_43 ?_
          exact hret (-1) st _ _ dX0_truncate_44 (Or.inr (Or.inr (Or.inl ⟨⟨f0, f1⟩, c1, by omega, rfl, rfl⟩)))
    · refine j_bipush hF dX0_truncate_22 (by decide) ?_
      exact hret (-3) st _ _ dX0_truncate_24 (Or.inr (Or.inl ⟨⟨f0, f1⟩, c1, rfl, rfl⟩))
  · have hk : ¬ fOk f := by
      rcases hb with h | h
      · omega
      · exact h.1
    refine j_iconst hF dX0_truncate_8 ?_
    exact hret (-1) st _ _ dX0_truncate_9 (Or.inl ⟨hk, rfl, rfl⟩)
set_option maxHeartbeats 4000000 in
/-- write(f, i, w) -/
theorem mx_write (l : Launch) (D : va_G) (cI cB : ClassId) (h0 : Nat) (ad : Nat → Nat) (st : PS) (N : Int) (c : Nat) (f i w : Int) (hN : N ≤ 900) (hI : InvC N c st) (hf : -2147483648 ≤ f ∧ f ≤ 2147483647) (hi : -2147483648 ≤ i ∧ i ≤ 2147483647) : MI l D cI cB (xw h0 ad cI cB) yX0_write cX0_write 7 (some .int) 4 96 [.ref h0, iv f, iv i, iv w] st (xWrite st f i w) := by
  refine MI_of (by decide +kernel) (Nat.le_of_ble_eq_true rfl) (fun E hF hret => ?_)
  have hF : JF E l cX0_write RX0 7 (rmo 4 96) D cI cB := hF
  show J E 0 0 (xw h0 ad cI cB st) 0 [(0, .ref h0), (1, iv f), (2, iv i), (3, iv w)] []
  have hsv := hI.sv (by omega)
  have hN9 := hI.2.2.2.1
  refine j_aload_n hF dX0_write_0 rfl 0 rfl ?_
  refine j_iload_n hF dX0_write_1 rfl 1 rfl ?_
  refine j_calli (As := [iv f]) (n := 1) hF (mx_bad l D cI cB h0 ad st f hf) (lw_V q112 q114 qs6 q17 q115) (by decide +kernel) (by decide) ⟨Nat.le_of_ble_eq_true rfl, Nat.le_of_ble_eq_true rfl⟩ rfl 0 rfl rfl rfl [] rfl (by simp [Value.category]) dX0_write_2 (fun k u_k hb => ?_)
  obtain ⟨e_k, hb⟩ := hb
  rw [e_k]
  refine j_if_eq hF 10 dX0_write_5 (by decide) (by omega) (fun c0 => ?_) (fun c0 => ?_)
  · have hk : fOk f := by
      rcases hb with h | h
      · exact ⟨h.1, h.2.1⟩
      · omega
    obtain ⟨f0, f1⟩ := hk
    have o1 := (hI.1 f f0 f1).1
    have r1 := o1.rg
    refine j_aload_n hF dX0_write_10 rfl 0 rfl ?_
    refine xg10 hF dX0_write_11 ?_
    refine j_iload_n hF dX0_write_14 rfl 1 rfl ?_
    refine xl10 hF dX0_write_15 (by omega) ?_
    refine j_istore hF [(0, .ref h0), (1, iv f), (2, iv i), (3, iv w), (4, iv (st 10 f))] dX0_write_16 (by decide) [1, 2, 3, 4, 0] rfl ?_
    refine j_iload hF dX0_write_18 4 rfl ?_
    refine j_iconst hF dX0_write_20 ?_
    refine j_icmp_ne hF 27 dX0_write_21 (by decide) (by omega) (by omega) (fun c1 => ?_) (fun c1 => ?_)
    · obtain ⟨k1, k2, k3, k4, k5⟩ := o1.resolve_left c1
      have tail : ∀ sz : Int, ¬ (i < 0 ∨ st 2 (st 10 f) < i ∨ i = 4) → (sz = if i = st 2 (st 10 f) then i + 1 else st 2 (st 10 f)) → J E 0 0 (xw h0 ad cI cB st) 73 [(0, .ref h0), (1, iv f), (2, iv i), (3, iv w), (4, iv (st 10 f))] [iv sz] := by
        intro sz hw hsz
        refine j_istore hF [(0, .ref h0), (1, iv f), (2, iv i), (3, iv w), (4, iv (st 10 f)), (5, iv sz)] dX0_write_73 (by decide) [1, 2, 3, 4, 5, 0] rfl ?_
        refine j_aload_n hF dX0_write_75 rfl 0 rfl ?_
        refine j_iload_n hF dX0_write_76 rfl 1 rfl ?_
        refine j_iload hF dX0_write_77 5 rfl ?_
        refine j_iload hF dX0_write_79 4 rfl ?_
        refine j_iconst hF dX0_write_81 ?_
        refine j_iconst hF dX0_write_82 ?_
        refine j_callv (As := [iv f, iv sz, iv (st 10 f), iv (-1), iv (-1)]) (n := 5) hF (mx_writeNode l D cI cB h0 ad st f sz (st 10 f) hsv ⟨f0, f1⟩ (Or.inr rfl)) (lw_V q116 q118 qs7 q17 q119) (by decide +kernel) (by decide) ⟨Nat.le_of_ble_eq_true rfl, Nat.le_of_ble_eq_true rfl⟩ rfl 0 rfl rfl rfl [] rfl (by simp [Value.category]) dX0_write_83 (fun u hu => ?_)
        obtain ⟨n, hu⟩ := hu
        have hn := hu.1
        have e10 : u 10 f = n := by rw [hu.2.2.2.2.2.2.2.2.1]; exact if_pos rfl
        have hm := wr_mid hI f0 f1 c1 (by omega) (by omega) (by omega) hsz hu
        have hsv2 := (nnQ_inv hI hm.1 hm.2.1).sv (by omega)
        refine j_aload_n hF dX0_write_86 rfl 0 rfl ?_
        refine xg10 hF dX0_write_87 ?_
        refine j_iload_n hF dX0_write_90 rfl 1 rfl ?_
        refine xl10 hF dX0_write_91 (by omega) ?_
        refine j_top (b := n) (e10) ?_
        refine j_istore hF [(0, .ref h0), (1, iv f), (2, iv i), (3, iv w), (4, iv n), (5, iv sz)] dX0_write_92 (by decide) [1, 2, 3, 4, 0, 5] rfl ?_
        refine j_aload_n hF dX0_write_94 rfl 0 rfl ?_
        refine xg2 hF dX0_write_95 ?_
        refine j_iload hF dX0_write_98 4 rfl ?_
        refine j_iload hF dX0_write_100 5 rfl ?_
        refine xs2 hF dX0_write_102 (by omega) ?_
        refine j_aload_n hF dX0_write_103 rfl 0 rfl ?_
        refine xg3 hF dX0_write_104 ?_
        refine j_iload hF dX0_write_107 4 rfl ?_
        refine j_iconst hF dX0_write_109 ?_
        refine j_imul hF dX0_write_110 ?_
        refine j_iload_n hF dX0_write_111 rfl 2 rfl ?_
        refine j_iadd hF dX0_write_112 ?_
        refine j_iload hF dX0_write_113 4 rfl ?_
        refine xs3 hF dX0_write_115 (by omega) ?_
        generalize hu2 : sw (sw u 2 n sz) 3 (n * 4 + i) n = u2 at hm hsv2 ⊢
        refine j_aload_n hF dX0_write_116 rfl 0 rfl ?_
        refine j_calli (As := []) (n := 0) hF (mx_fresh l D cI cB h0 ad u2 hsv2) (lw_V q35 q37 qs2 q17 q38) (by decide +kernel) (by decide) ⟨Nat.le_of_ble_eq_true rfl, Nat.le_of_ble_eq_true rfl⟩ rfl 0 rfl rfl rfl [] rfl (by simp [Value.category]) dX0_write_117 (fun a v hv => ?_)
        have ha := hv.1
        refine j_istore hF [(0, .ref h0), (1, iv f), (2, iv i), (3, iv w), (4, iv n), (5, iv sz), (6, iv a)] dX0_write_120 (by decide) [1, 2, 3, 4, 5, 6, 0] rfl ?_
        refine j_aload_n hF dX0_write_122 rfl 0 rfl ?_
        refine xg0 hF dX0_write_123 ?_
        refine j_iload hF dX0_write_126 6 rfl ?_
        refine j_iload_n hF dX0_write_128 rfl 3 rfl ?_
        refine xs0 hF dX0_write_129 (by omega) ?_
        refine j_aload_n hF dX0_write_130 rfl 0 rfl ?_
        refine xg3 hF dX0_write_131 ?_
        refine j_iload hF dX0_write_134 4 rfl ?_
        refine j_iconst hF dX0_write_136 ?_
        refine j_imul hF dX0_write_137 ?_
        refine j_iload_n hF dX0_write_138 rfl 2 rfl ?_
        refine j_iadd hF dX0_write_139 ?_
        refine j_iload hF dX0_write_140 6 rfl ?_
        refine xs3 hF dX0_write_142 (by omega) ?_
        refine j_iload hF dX0_write_143 5 rfl ?_
        exact hret sz _ _ _ dX0_write_145 (Or.inr (Or.inr (Or.inr ⟨⟨f0, f1⟩, c1, hw, hsz, n, wr_fin hI f0 f1 (by omega) (by omega) hm hv⟩)))
      refine j_iload_n hF dX0_write_27 rfl 2 rfl ?_
      refine j_if_lt hF 47 dX0_write_28 (by decide) (by omega) (fun c2 => ?_) (fun c2 => ?_)
      · refine j_iconst hF dX0_write_47 ?_
        exact hret (-1) st _ _ dX0_write_48 (Or.inr (Or.inr (Or.inl ⟨⟨f0, f1⟩, c1, by omega, rfl, rfl⟩)))
      · refine j_iload_n hF dX0_write_31 rfl 2 rfl ?_
        refine j_aload_n hF dX0_write_32 rfl 0 rfl ?_
        refine xg2 hF dX0_write_33 ?_
        refine j_iload hF dX0_write_36 4 rfl ?_
        refine xl2 hF dX0_write_38 (by omega) ?_
        refine j_icmp_gt hF 47 dX0_write_39 (by decide) (by omega) (by omega) (fun c3 => ?_) (fun c3 => ?_)
        · refine j_iconst hF dX0_write_47 ?_
          exact hret (-1) st _ _ dX0_write_48 (Or.inr (Or.inr (Or.inl ⟨⟨f0, f1⟩, c1, by omega, rfl, rfl⟩)))
        · refine j_iload_n hF dX0_write_42 rfl 2 rfl ?_
          refine j_iconst hF dX0_write_43 ?_
          refine j_icmp_ne hF 49 dX0_write_44 (by decide) (by omega) (by omega) (fun c4 => ?_) (fun c4 => ?_)
          · refine j_iload_n hF dX0_write_49 rfl 2 rfl ?_
            refine j_aload_n hF dX0_write_50 rfl 0 rfl ?_
            refine xg2 hF dX0_write_51 ?_
            refine j_iload hF dX0_write_54 4 rfl ?_
            refine xl2 hF dX0_write_56 (by omega) ?_
            refine j_icmp_ne hF 66 dX0_write_57 (by decide) (by omega) (by omega) (fun c5 => ?_) (fun c5 => ?_)
            · refine j_aload_n hF dX0_write_66 rfl 0 rfl ?_
              refine xg2 hF dX0_write_67 ?_
              refine j_iload hF dX0_write_70 4 rfl ?_
              refine xl2 hF dX0_write_72 (by omega) ?_
              exact tail _ (by omega) (by rw [if_neg c5])
            · refine j_iload_n hF dX0_write_60 rfl 2 rfl ?_
              refine j_iconst hF dX0_write_61 ?_
              refine j_iadd hF dX0_write_62 ?_
              refine j_goto hF 73 dX0_write_63 (by decide) ?_
              exact tail _ (by omega) (by rw [if_pos c5])
          · refine j_iconst hF dX0_write_47 ?_
            exact hret (-1) st _ _ dX0_write_48 (Or.inr (Or.inr (Or.inl ⟨⟨f0, f1⟩, c1, by omega, rfl, rfl⟩)))
    · refine j_bipush hF dX0_write_24 (by decide) ?_
      exact hret (-3) st _ _ dX0_write_26 (Or.inr (Or.inl ⟨⟨f0, f1⟩, c1, rfl, rfl⟩))
  · have hk : ¬ fOk f := by
      rcases hb with h | h
      · omega
      · exact h.1
    refine j_iconst hF dX0_write_8 ?_
    exact hret (-1) st _ _ dX0_write_9 (Or.inl ⟨hk, rfl, rfl⟩)
set_option maxHeartbeats 4000000 in
/-- copy(f, g) -/
theorem mx_copy (l : Launch) (D : va_G) (cI cB : ClassId) (h0 : Nat) (ad : Nat → Nat) (st : PS) (N : Int) (c : Nat) (f g : Int) (hN : N ≤ 900) (hI : InvC N c st) (hf : -2147483648 ≤ f ∧ f ≤ 2147483647) (hg : -2147483648 ≤ g ∧ g ≤ 2147483647) : MI l D cI cB (xw h0 ad cI cB) yX0_copy cX0_copy 7 (some .int) 4 96 [.ref h0, iv f, iv g] st (xCopy st f g) := by
  refine MI_of (by decide +kernel) (Nat.le_of_ble_eq_true rfl) (fun E hF hret => ?_)
  have hF : JF E l cX0_copy RX0 7 (rmo 4 96) D cI cB := hF
  show J E 0 0 (xw h0 ad cI cB st) 0 [(0, .ref h0), (1, iv f), (2, iv g)] []
  have hsv := hI.sv (by omega)
  have hN9 := hI.2.2.2.1
  refine j_aload_n hF dX0_copy_0 rfl 0 rfl ?_
  refine j_iload_n hF dX0_copy_1 rfl 1 rfl ?_
  refine j_calli (As := [iv f]) (n := 1) hF (mx_bad l D cI cB h0 ad st f hf) (lw_V q112 q114 qs6 q17 q115) (by decide +kernel) (by decide) ⟨Nat.le_of_ble_eq_true rfl, Nat.le_of_ble_eq_true rfl⟩ rfl 0 rfl rfl rfl [] rfl (by simp [Value.category]) dX0_copy_2 (fun k u_k hb => ?_)
  obtain ⟨e_k, hb⟩ := hb
  rw [e_k]
  refine j_if_ne hF 16 dX0_copy_5 (by decide) (by omega) (fun c0 => ?_) (fun c0 => ?_)
  · have hk : ¬ fOk f := by
      rcases hb with h | h
      · omega
      · exact h.1
    refine j_iconst hF dX0_copy_16 ?_
    exact hret (-1) st _ _ dX0_copy_17 (Or.inl ⟨fun h => hk h.1, rfl, rfl⟩)
  · have hk : fOk f := by
      rcases hb with h | h
      · exact ⟨h.1, h.2.1⟩
      · omega
    obtain ⟨f0, f1⟩ := hk
    refine j_aload_n hF dX0_copy_8 rfl 0 rfl ?_
    refine j_iload_n hF dX0_copy_9 rfl 2 rfl ?_
    refine j_calli (As := [iv g]) (n := 1) hF (mx_bad l D cI cB h0 ad st g hg) (lw_V q112 q114 qs6 q17 q115) (by decide +kernel) (by decide) ⟨Nat.le_of_ble_eq_true rfl, Nat.le_of_ble_eq_true rfl⟩ rfl 0 rfl rfl rfl [] rfl (by simp [Value.category]) dX0_copy_10 (fun k2 u_k2 hb2 => ?_)
    obtain ⟨e_k2, hb2⟩ := hb2
    rw [e_k2]
    refine j_if_eq hF 18 dX0_copy_13 (by decide) (by omega) (fun c02 => ?_) (fun c02 => ?_)
    · have hk : fOk g := by
        rcases hb2 with h | h
        · exact ⟨h.1, h.2.1⟩
        · omega
      obtain ⟨g0, g1⟩ := hk
      have o1 := (hI.1 f f0 f1).1
      have r1 := o1.rg
      have o2 := (hI.1 g g0 g1).1
      have r2 := o2.rg
      refine j_aload_n hF dX0_copy_18 rfl 0 rfl ?_
      refine xg10 hF dX0_copy_19 ?_
      refine j_iload_n hF dX0_copy_22 rfl 1 rfl ?_
      refine xl10 hF dX0_copy_23 (by omega) ?_
      refine j_iconst hF dX0_copy_24 ?_
      refine j_icmp_eq hF 38 dX0_copy_25 (by decide) (by omega) (by omega) (fun c1 => ?_) (fun c1 => ?_)
      · refine j_bipush hF dX0_copy_38 (by decide) ?_
        exact hret (-3) st _ _ dX0_copy_40 (Or.inr (Or.inl ⟨⟨⟨f0, f1⟩, ⟨g0, g1⟩⟩, Or.inl c1, rfl, rfl⟩))
      · refine j_aload_n hF dX0_copy_28 rfl 0 rfl ?_
        refine xg10 hF dX0_copy_29 ?_
        refine j_iload_n hF dX0_copy_32 rfl 2 rfl ?_
        refine xl10 hF dX0_copy_33 (by omega) ?_
        refine j_iconst hF dX0_copy_34 ?_
        refine j_icmp_ne hF 41 dX0_copy_35 (by decide) (by omega) (by omega) (fun c2 => ?_) (fun c2 => ?_)
        · obtain ⟨k1, k2, k3, k4, k5⟩ := o2.resolve_left c2
          refine j_aload_n hF dX0_copy_41 rfl 0 rfl ?_
          refine xg10 hF dX0_copy_42 ?_
          refine j_iload_n hF dX0_copy_45 rfl 2 rfl ?_
          refine xl10 hF dX0_copy_46 (by omega) ?_
          refine j_istore_n hF [(0, .ref h0), (1, iv f), (2, iv g), (3, iv (st 10 g))] dX0_copy_47 rfl (by decide) [1, 2, 3, 0] rfl ?_
          refine j_aload_n hF dX0_copy_48 rfl 0 rfl ?_
          refine xg2 hF dX0_copy_49 ?_
          refine j_iload_n hF dX0_copy_52 rfl 3 rfl ?_
          refine xl2 hF dX0_copy_53 (by omega) ?_
          refine j_istore hF [(0, .ref h0), (1, iv f), (2, iv g), (3, iv (st 10 g)), (4, iv (st 2 (st 10 g)))] dX0_copy_54 (by decide) [1, 2, 3, 4, 0] rfl ?_
          refine j_iload_n hF dX0_copy_56 rfl 1 rfl ?_
          refine j_iload_n hF dX0_copy_57 rfl 2 rfl ?_
          refine j_icmp_ne hF 64 dX0_copy_58 (by decide) (by omega) (by omega) (fun c3 => ?_) (fun c3 => ?_)
          · refine j_aload_n hF dX0_copy_64 rfl 0 rfl ?_
            refine j_iload_n hF dX0_copy_65 rfl 1 rfl ?_
            refine j_iconst hF dX0_copy_66 ?_
            refine j_iconst hF dX0_copy_67 ?_
            refine j_iconst hF dX0_copy_68 ?_
            refine j_iconst hF dX0_copy_69 ?_
            refine j_callv (As := [iv f, iv 0, iv (-1), iv (-1), iv (-1)]) (n := 5) hF (mx_writeNode l D cI cB h0 ad st f 0 (-1) hsv ⟨f0, f1⟩ (Or.inl rfl)) (lw_V q116 q118 qs7 q17 q119) (by decide +kernel) (by decide) ⟨Nat.le_of_ble_eq_true rfl, Nat.le_of_ble_eq_true rfl⟩ rfl 0 rfl rfl rfl [] rfl (by simp [Value.category]) dX0_copy_70 (fun u0 hu0 => ?_)
            obtain ⟨n, hu0⟩ := hu0
            have hn := hu0.1
            have hng : st 10 g ≠ n := (notNd hu0.2.1 g0 g1 hn.1).1
            have loop : ∀ (n' : Nat) (i : Int) (u : PS), st 2 (st 10 g) - i < (n' : Int) → 0 ≤ i → i ≤ st 2 (st 10 g) → rpP st f n i (fun k => st 0 (st 3 (st 10 g * 4 + k))) u → J E 0 0 (xw h0 ad cI cB u) 76 [(0, .ref h0), (1, iv f), (2, iv g), (3, iv (st 10 g)), (4, iv (st 2 (st 10 g))), (5, iv i)] [] := by
              intro n'
              induction n' with
              | zero => intro i u hm i0 i1 hu; omega
              | succ n' ih =>
                intro i u hm i0 i1 hu
                refine j_iload hF dX0_copy_76 5 rfl ?_
                refine j_iload hF dX0_copy_78 4 rfl ?_
                refine j_icmp_ge hF 151 dX0_copy_80 (by decide) (by omega) (by omega) (fun c4 => ?_) (fun c4 => ?_)
                · have e : i = st 2 (st 10 g) := by omega
                  subst e
                  refine j_iload hF dX0_copy_151 4 rfl ?_
                  exact hret (st 2 (st 10 g)) u _ _ dX0_copy_153 (Or.inr (Or.inr (Or.inr ⟨⟨⟨f0, f1⟩, ⟨g0, g1⟩⟩, fun h => by omega, c3, rfl, n, hu⟩)))
                · obtain ⟨k6, k7⟩ := k5 i i0 (by omega)
                  have hsv2 := (nnQ_inv hI hu.1 hu.2.1).sv (by omega)
                  have e10 := nnQ_10 hu.1
                  refine j_aload_n hF dX0_copy_83 rfl 0 rfl ?_
                  refine j_calli (As := []) (n := 0) hF (mx_fresh l D cI cB h0 ad u hsv2) (lw_V q35 q37 qs2 q17 q38) (by decide +kernel) (by decide) ⟨Nat.le_of_ble_eq_true rfl, Nat.le_of_ble_eq_true rfl⟩ rfl 0 rfl rfl rfl [] rfl (by simp [Value.category]) dX0_copy_84 (fun a v hv => ?_)
                  have ha := hv.1
                  have e3 : v 3 (st 10 g * 4 + i) = st 3 (st 10 g * 4 + i) := by
                    rw [hv.2.2.1 3 (by decide)]; exact (nnQ_ag hI hu.1 o2 hng).2.2 i i0 (by omega)
                  have e0 : v 0 (st 3 (st 10 g * 4 + i)) = st 0 (st 3 (st 10 g * 4 + i)) := by
                    rw [hv.2.2.1 0 (by decide)]
                    exact (hu.1.2.2.2.2.2.2.2.2 _ (Or.inl ⟨g, g0, g1, Or.inl ⟨fun e => c3 e.symm, c2, Or.inr ⟨i, i0, by omega, rfl⟩⟩⟩)).2
                  have v10 : v 10 f = n := by rw [hv.2.2.1 10 (by decide)]; exact e10
                  refine j_istore hF [(0, .ref h0), (1, iv f), (2, iv g), (3, iv (st 10 g)), (4, iv (st 2 (st 10 g))), (5, iv i), (6, iv a)] dX0_copy_87 (by decide) [1, 2, 3, 4, 5, 6, 0] rfl ?_
                  refine j_aload_n hF dX0_copy_89 rfl 0 rfl ?_
                  refine xg0 hF dX0_copy_90 ?_
                  refine j_iload hF dX0_copy_93 6 rfl ?_
                  refine j_aload_n hF dX0_copy_95 rfl 0 rfl ?_
                  refine xg0 hF dX0_copy_96 ?_
                  refine j_aload_n hF dX0_copy_99 rfl 0 rfl ?_
                  refine xg3 hF dX0_copy_100 ?_
                  refine j_iload_n hF dX0_copy_103 rfl 3 rfl ?_
                  refine j_iconst hF dX0_copy_104 ?_
                  refine j_imul hF dX0_copy_105 ?_
                  refine j_iload hF dX0_copy_106 5 rfl ?_
                  refine j_iadd hF dX0_copy_108 ?_
                  refine xl3 hF dX0_copy_109 (by omega) ?_
                  refine j_top (b := st 3 (st 10 g * 4 + i)) (e3) ?_
                  refine xl0 hF dX0_copy_110 (by omega) ?_
                  refine j_top (b := st 0 (st 3 (st 10 g * 4 + i))) (e0) ?_
                  refine xs0 hF dX0_copy_111 (by omega) ?_
                  refine j_aload_n hF dX0_copy_112 rfl 0 rfl ?_
                  refine xg3 hF dX0_copy_113 ?_
                  refine j_aload_n hF dX0_copy_116 rfl 0 rfl ?_
                  refine xg10 hF dX0_copy_117 ?_
                  refine j_iload_n hF dX0_copy_120 rfl 1 rfl ?_
                  refine xl10 hF dX0_copy_121 (by omega) ?_
                  refine j_top (b := n) (by rw [sw_ne (by decide), v10]) ?_
                  refine j_iconst hF dX0_copy_122 ?_
                  refine j_imul hF dX0_copy_123 ?_
                  refine j_iload hF dX0_copy_124 5 rfl ?_
                  refine j_iadd hF dX0_copy_126 ?_
                  refine j_iload hF dX0_copy_127 6 rfl ?_
                  refine xs3 hF dX0_copy_129 (by omega) ?_
                  refine j_aload_n hF dX0_copy_130 rfl 0 rfl ?_
                  refine xg2 hF dX0_copy_131 ?_
                  refine j_aload_n hF dX0_copy_134 rfl 0 rfl ?_
                  refine xg10 hF dX0_copy_135 ?_
                  refine j_iload_n hF dX0_copy_138 rfl 1 rfl ?_
                  refine xl10 hF dX0_copy_139 (by omega) ?_
                  refine j_top (b := n) (by rw [sw_ne (by decide), sw_ne (by decide), v10]) ?_
                  refine j_iload hF dX0_copy_140 5 rfl ?_
                  refine j_iconst hF dX0_copy_142 ?_
                  refine j_iadd hF dX0_copy_143 ?_
                  refine xs2 hF dX0_copy_144 (by omega) ?_
                  refine j_iinc hF [(0, .ref h0), (1, iv f), (2, iv g), (3, iv (st 10 g)), (4, iv (st 2 (st 10 g))), (5, iv (i + 1)), (6, iv a)] dX0_copy_145 5 rfl (by decide) [1, 2, 3, 4, 5, 0, 6] rfl ?_
                  refine j_goto hF 76 dX0_copy_148 (by decide) ?_
                  exact j_loc [0, 1, 2, 3, 4, 5] rfl (ih (i + 1) _ (by omega) (by omega) (by omega) (rp_step (W := fun k => st 0 (st 3 (st 10 g * 4 + k))) hI f0 f1 hu (by omega) hv))
            refine j_iconst hF dX0_copy_73 ?_
            refine j_istore hF [(0, .ref h0), (1, iv f), (2, iv g), (3, iv (st 10 g)), (4, iv (st 2 (st 10 g))), (5, iv 0)] dX0_copy_74 (by decide) [1, 2, 3, 4, 5, 0] rfl ?_
            exact loop 5 0 u0 (by omega) (by omega) (by omega) (rp_new hI hu0)
          · refine j_iload hF dX0_copy_61 4 rfl ?_
            exact hret (st 2 (st 10 g)) st _ _ dX0_copy_63 (Or.inr (Or.inr (Or.inl ⟨⟨⟨f0, f1⟩, ⟨g0, g1⟩⟩, fun h => by omega, c3, rfl, rfl⟩)))
        · refine j_bipush hF dX0_copy_38 (by decide) ?_
          exact hret (-3) st _ _ dX0_copy_40 (Or.inr (Or.inl ⟨⟨⟨f0, f1⟩, ⟨g0, g1⟩⟩, Or.inr c2, rfl, rfl⟩))
    · have hk : ¬ fOk g := by
        rcases hb2 with h | h
        · omega
        · exact h.1
      refine j_iconst hF dX0_copy_16 ?_
      exact hret (-1) st _ _ dX0_copy_17 (Or.inl ⟨fun h => hk h.2, rfl, rfl⟩)
end
section
theorem InvC.mono {N N' : Int} {c : Nat} {st : PS} (h : InvC N c st) (hN : N ≤ N') : InvC N' c st := by
  obtain ⟨iA, iB, iC, iD, iE, iF, iG, iH, iI, iK, iL, iY⟩ := h
  exact ⟨iA, iB, iC, ⟨iD.1, by omega⟩, iE, iF, iG, iH, iI, iK, iL, iY⟩
theorem InvC.wpre {N : Int} {c : Nat} {st : PS} (h : InvC N c st) (hN : N ≤ 900) : WPre st := by
  obtain ⟨iA, iB, iC, iD, iE, iF, iG, iH, iI, iK, iL, iY⟩ := h
  exact ⟨fun f f0 f1 => ⟨(iA f f0 f1).1, (iA f f0 f1).2.1⟩, ⟨by omega, by omega⟩, iE, ⟨iL.1, iL.2.1, iL.2.2.1⟩, iY⟩
theorem InvC.cpre {N : Int} {c : Nat} {st : PS} (h : InvC N c st) (hN : N ≤ 900) : CPre st := by
  obtain ⟨iA, iB, iC, iD, iE, iF, iG, iH, iI, iK, iL, iY⟩ := h
  exact ⟨fun f f0 f1 => (iA f f0 f1).1, ⟨by omega, by omega⟩, iE, ⟨iL.1, iL.2.1, iL.2.2.1⟩⟩
/-- fsync's loop: the words of the old node go to the chain's block n -/
def fsI (s : PS) (f n k : Int) (u : PS) : Prop := fr [3] (sw (sw s 1 n f) 2 n (s 2 (s 10 f))) u ∧ (∀ j : Int, 0 ≤ j → j < k → u 3 (n * 4 + j) = s 3 (s 10 f * 4 + j)) ∧ ∀ a : Int, a < n * 4 ∨ n * 4 + k ≤ a → u 3 a = s 3 a
theorem fsI_0 (s : PS) (f n : Int) : fsI s f n 0 (sw (sw s 1 n f) 2 n (s 2 (s 10 f))) := by
  refine ⟨fr.rf, fun j h1 h2 => by omega, fun a ha => ?_⟩
  rw [sw_ne (by decide), sw_ne (by decide)]
theorem fsI_s {s u : PS} {f n k : Int} (h : fsI s f n k u) (hk : 0 ≤ k) : fsI s f n (k + 1) (sw u 3 (n * 4 + k) (s 3 (s 10 f * 4 + k))) := by
  obtain ⟨h1, h2, h3⟩ := h
  refine ⟨h1.sw (by decide), fun j j0 j1 => ?_, fun a ha => ?_⟩
  · by_cases hj : j = k
    · subst hj; rw [sw_eq]
    · rw [sw_na (by omega)]; exact h2 j j0 (by omega)
  · rw [sw_na (by omega)]; exact h3 a (by omega)
/-- behind the loop, nodeNow and nodeLasting set -/
def fsM (s : PS) (f n : Int) (m : PS) : Prop := fr [1, 2, 3, 10, 11] s m ∧ (m 1 = fun b => if b = n then f else s 1 b) ∧ (m 2 = fun b => if b = n then s 2 (s 10 f) else s 2 b) ∧ (m 10 = fun g => if g = f then n else s 10 g) ∧ (m 11 = fun g => if g = f then n else s 11 g) ∧ (∀ j : Int, 0 ≤ j → j < 4 → m 3 (n * 4 + j) = s 3 (s 10 f * 4 + j)) ∧ ∀ a : Int, a < n * 4 ∨ n * 4 + 4 ≤ a → m 3 a = s 3 a
theorem fsI_e {s u : PS} {f n : Int} (h : fsI s f n 4 u) : fsM s f n (sw (sw u 10 f n) 11 f n) := by
  obtain ⟨h1, h2, h3⟩ := h
  have g : ∀ k : Nat, k ∉ [1, 2, 3] → u k = s k := fun k hk => by
    simp only [List.mem_cons, List.not_mem_nil, or_false, not_or] at hk
    rw [h1 k (by simp [hk]), sw_ne hk.2.1, sw_ne hk.1]
  refine ⟨fun k hk => ?_, ?_, ?_, ?_, ?_, fun j j0 j1 => ?_, fun a ha => ?_⟩
  · simp only [List.mem_cons, List.not_mem_nil, or_false, not_or] at hk
    rw [sw_ne hk.2.2.2.2, sw_ne hk.2.2.2.1, g k (by simp [hk])]
  · rw [sw_ne (by decide), sw_ne (by decide), h1 1 (by decide), sw_ne (by decide), sw_fun]
  · rw [sw_ne (by decide), sw_ne (by decide), h1 2 (by decide), sw_fun, sw_ne (by decide)]
  · rw [sw_ne (by decide), sw_fun, g 10 (by decide)]
  · rw [sw_fun, sw_ne (by decide), g 11 (by decide)]
  · rw [sw_ne (by decide), sw_ne (by decide)]; exact h2 j j0 j1
  · rw [sw_ne (by decide), sw_ne (by decide)]; exact h3 a ha
section
variable {N : Int} {c : Nat} {s m v : PS} {f a : Int}
theorem fsM_ok (hI : InvC N c s) (f0 : 0 ≤ f) (f1 : f < 6) (ho : s 10 f ≠ -1) (h : fsM s f (s 14 0) m) : okN m (s 14 0) ∧ ∀ x : Int, okM s x → x ≠ s 14 0 → okM m x := by
  obtain ⟨m1, m2, m3, m4, m5, m6, m7⟩ := h
  obtain ⟨o1, o2, o3, o4, o5⟩ := (hI.1 f f0 f1).1.resolve_left ho
  have e2 : m 2 (s 14 0) = s 2 (s 10 f) := by rw [m3]; exact if_pos rfl
  refine ⟨⟨hI.2.1.1, hI.2.1.2, by rw [e2]; exact o3, by rw [e2]; exact o4, fun i i0 i1 => ?_⟩, fun x hx hne => (ag hx hne (by rw [m3]; exact if_neg hne) m7).2.1⟩
  rw [e2] at i1
  rw [m6 i i0 (by omega)]; exact o5 i i0 i1
theorem fsM_sv (hN : N ≤ 1000) (hI : InvC N c s) (f0 : 0 ≤ f) (f1 : f < 6) (ho : s 10 f ≠ -1) (h : fsM s f (s 14 0) m) : Sv m := by
  obtain ⟨k1, k2⟩ := fsM_ok hI f0 f1 ho h
  have hs := hI.sv hN
  obtain ⟨m1, m2, m3, m4, m5, m6, m7⟩ := h
  have e14 : m 14 = s 14 := m1 14 (by decide)
  have iK := hI.2.2.2.2.2.2.2.2.2.1
  refine ⟨fun g g0 g1 => ?_, by rw [e14]; exact hs.2.1, by rw [e14]; exact hs.2.2.1, by rw [e14]; exact hs.2.2.2.1, by rw [e14]; exact hs.2.2.2.2.1, fun i hi => ?_⟩
  · obtain ⟨o1, o2, o3⟩ := hs.1 g g0 g1
    obtain ⟨n1, n2, n3⟩ := iK g g0 g1
    refine ⟨?_, ?_, ?_⟩
    · rw [m4]
      show okM m (if g = f then s 14 0 else s 10 g)
      by_cases hg : g = f
      · rw [if_pos hg]; exact Or.inr k1
      · rw [if_neg hg]; exact k2 _ o1 n1
    · rw [m5]
      show okM m (if g = f then s 14 0 else s 11 g)
      by_cases hg : g = f
      · rw [if_pos hg]; exact Or.inr k1
      · rw [if_neg hg]; exact k2 _ o2 n2
    · rw [pk_fr (m1 8 (by decide)) (by rw [e14])]; exact k2 _ o3 n3
  · rw [chn_fr (m1 5 (by decide)) (m1 9 (by decide)) (by rw [e14])]
    rw [e14] at hi
    exact hs.2.2.2.2.2 i hi
/-- what the chained fsync does -/
def fsP (N : Int) (c : Nat) (s : PS) (f : Int) (w : PS) : Prop := InvC N (c + 1) w ∧ w 0 = s 0 ∧ w 12 = s 12 ∧ (∀ g : Int, g ≠ f → w 10 g = s 10 g ∧ w 11 g = s 11 g) ∧ (w 10 f = s 14 0 ∧ w 11 f = s 14 0) ∧ (∀ b : Int, b ≠ s 14 0 → w 2 b = s 2 b) ∧ (∀ a : Int, a < s 14 0 * 4 ∨ s 14 0 * 4 + 4 ≤ a → w 3 a = s 3 a) ∧ w 2 (s 14 0) = s 2 (s 10 f) ∧ ∀ k : Int, 0 ≤ k → k < 4 → w 3 (s 14 0 * 4 + k) = s 3 (s 10 f * 4 + k)
theorem fs_fin (hI : InvC N c s) (hc : c < 20) (f0 : 0 ≤ f) (f1 : f < 6) (ho : s 10 f ≠ -1) (h : fsM s f (s 14 0) m) (hv : freP m a v) : fsP N c s f (sw (sw (sw (sw v 14 0 a) 5 (s 14 0) a) 4 (s 14 0) (s 14 2)) 14 1 ((c : Int) + 1)) := by
  obtain ⟨k1, k2⟩ := fsM_ok hI f0 f1 ho h
  obtain ⟨m1, m2, m3, m4, m5, m6, m7⟩ := h
  obtain ⟨v1, v2, v3, v4, v5, v6⟩ := hv
  obtain ⟨iA, iB, iC, iD, iE, iF, iG, iH, iI, iK, iL, iY⟩ := hI
  have e14 : m 14 = s 14 := m1 14 (by decide)
  generalize hn : s 14 0 = n at *
  generalize hw : sw (sw (sw (sw v 14 0 a) 5 n a) 4 n (s 14 2)) 14 1 ((c : Int) + 1) = w
  have wv : ∀ k : Nat, k ∉ [4, 5, 14] → w k = v k := fun k hk => by
    simp only [List.mem_cons, List.not_mem_nil, or_false, not_or] at hk
    rw [← hw, sw_ne hk.2.2, sw_ne hk.1, sw_ne hk.2.1, sw_ne hk.2.2]
  have wm : ∀ k : Nat, k ∉ [4, 5, 13, 14] → w k = m k := fun k hk => by
    simp only [List.mem_cons, List.not_mem_nil, or_false, not_or] at hk
    rw [wv k (by simp [hk]), v3 k (by simp [hk])]
  have ws : ∀ k : Nat, k ∉ [1, 2, 3, 4, 5, 10, 11, 13, 14] → w k = s k := fun k hk => by
    simp only [List.mem_cons, List.not_mem_nil, or_false, not_or] at hk
    rw [wm k (by simp [hk]), m1 k (by simp [hk])]
  have w0 : w 14 0 = a := by rw [← hw, sw_na (by decide), sw_ne (by decide), sw_ne (by decide), sw_eq]
  have w1 : w 14 1 = (c : Int) + 1 := by rw [← hw, sw_eq]
  have w2 : w 14 2 = s 14 2 := by rw [← hw, sw_na (by decide), sw_ne (by decide), sw_ne (by decide), sw_na (by decide), v4 2 (by decide), e14]
  have w3 : w 14 3 = v 14 3 := by rw [← hw, sw_na (by decide), sw_ne (by decide), sw_ne (by decide), sw_na (by decide)]
  have w5 : w 5 = fun b => if b = n then a else s 5 b := by rw [← hw, sw_ne (by decide), sw_ne (by decide), sw_fun, sw_ne (by decide), v3 5 (by decide), m1 5 (by decide)]
  have w4 : w 4 = fun b => if b = n then s 14 2 else if b = a then -1 else s 4 b := by rw [← hw, sw_ne (by decide), sw_fun, sw_ne (by decide), sw_ne (by decide), v6, m1 4 (by decide)]
  have wpar : par w = par s := by rw [par, par, w2]
  have wpk : ∀ g : Int, pk w g = pk s g := pk_fr (ws 8 (by decide)) w2
  have mpk : ∀ g : Int, pk m g = pk s g := pk_fr (m1 8 (by decide)) (by rw [e14])
  have mch : ∀ i : Nat, chn m i = chn s i := chn_fr (m1 5 (by decide)) (m1 9 (by decide)) (by rw [e14])
  have an : n ≠ a := fun e => v2 (Or.inr (Or.inl ⟨by rw [e14, hn]; omega, by rw [e14, hn]; exact e.symm⟩))
  have ach : ∀ i : Nat, i < c → chn s i ≠ a := fun i hi e => v2 (Or.inr (Or.inr ⟨i, by rw [e14]; omega, by rw [mch]; exact e.symm⟩))
  have wch : ∀ i : Nat, i ≤ c → chn w i = chn s i := by
    intro i
    induction i with
    | zero => intro _; show w 9 (par w) = s 9 (par s); rw [wpar, ws 9 (by decide)]
    | succ i ih =>
      intro hi
      show w 5 (chn w i) = s 5 (chn s i)
      rw [ih (by omega), w5]
      exact if_neg (iF i (by omega)).2.2.2
  have wcc : chn w (c + 1) = a := by
    show w 5 (chn w c) = a
    rw [wch c (Nat.le_refl c), iG, w5]; exact if_pos rfl
  have w1f : w 1 = fun b => if b = n then f else s 1 b := by rw [wm 1 (by decide), m2]
  have wrl : ∀ g : Int, ∀ i : Nat, i ≤ c → rl w g i = rl s g i := by
    intro g i
    induction i with
    | zero => intro _; exact wpk g
    | succ i ih =>
      intro hi
      show (if w 1 (chn w i) = g then chn w i else rl w g i) = if s 1 (chn s i) = g then chn s i else rl s g i
      rw [wch i (by omega), ih (by omega), w1f]
      rw [show (fun b => if b = n then f else s 1 b) (chn s i) = s 1 (chn s i) from if_neg (iF i (by omega)).2.2.2]
  have w10 : w 10 = fun g => if g = f then n else s 10 g := by rw [wm 10 (by decide), m4]
  have w11 : w 11 = fun g => if g = f then n else s 11 g := by rw [wm 11 (by decide), m5]
  have wok : ∀ x : Int, okM w x = okM m x := fun x => okM_fr (wm 2 (by decide)) (wm 3 (by decide))
  refine ⟨⟨fun g g0 g1 => ?_, by rw [w0]; exact v1, ⟨by rw [w1]; omega, by omega⟩, by rw [w2]; exact iD, by rw [w3]; exact v5, fun i hi => ?_, by rw [wcc, w0], ?_, fun g g0 g1 => ?_, fun g g0 g1 => ?_, ?_, fun g g0 g1 => ?_⟩, ?_, ?_, fun g hg => ?_, ⟨?_, ?_⟩, fun b hb => ?_, fun x hx => ?_, ?_, fun k k0 k1 => ?_⟩
  · obtain ⟨o1, o2, o3⟩ := iA g g0 g1
    obtain ⟨n1, n2, n3⟩ := iK g g0 g1
    rw [wok, wok, wok, wpk, w10, w11]
    refine ⟨?_, ?_, k2 _ o3 n3⟩
    · show okM m (if g = f then n else s 10 g)
      by_cases hg : g = f
      · rw [if_pos hg]; exact Or.inr k1
      · rw [if_neg hg]; exact k2 _ o1 n1
    · show okM m (if g = f then n else s 11 g)
      by_cases hg : g = f
      · rw [if_pos hg]; exact Or.inr k1
      · rw [if_neg hg]; exact k2 _ o2 n2
  · rw [w0, w2, wch i (by omega), w4, w1f]
    rcases Nat.lt_or_ge i c with h | h
    · obtain ⟨q1, q2, q3, q4⟩ := iF i h
      refine ⟨q1, ?_, ?_, ach i h⟩
      · show (if chn s i = n then s 14 2 else if chn s i = a then -1 else s 4 (chn s i)) = s 14 2
        rw [if_neg q4, if_neg (ach i h)]; exact q2
      · show 0 ≤ (if chn s i = n then f else s 1 (chn s i)) ∧ (if chn s i = n then f else s 1 (chn s i)) < 6
        rw [if_neg q4]; exact q3
    · have e : i = c := by omega
      subst e
      rw [iG]
      refine ⟨iB, if_pos rfl, ?_, an⟩
      show 0 ≤ (if n = n then f else s 1 n) ∧ (if n = n then f else s 1 n) < 6
      rw [if_pos rfl]; exact ⟨f0, f1⟩
  · rw [w0, w4]
    show (if a = n then s 14 2 else if a = a then -1 else s 4 a) = -1
    rw [if_neg (fun e => an e.symm), if_pos rfl]
  · show w 11 g = if w 1 (chn w c) = g then chn w c else rl w g c
    rw [wch c (Nat.le_refl c), iG, wrl g c (Nat.le_refl c), w11, w1f]
    show (if g = f then n else s 11 g) = if (if n = n then f else s 1 n) = g then n else rl s g c
    rw [if_pos rfl]
    by_cases hg : g = f
    · rw [if_pos hg, if_pos hg.symm]
    · rw [if_neg hg, if_neg (fun e => hg e.symm)]; exact iI g g0 g1
  · obtain ⟨q1, q2, q3⟩ := notNd v2 g0 g1 v1.1
    rw [w0, wpk, wm 10 (by decide), wm 11 (by decide)]
    rw [mpk] at q3
    exact ⟨q1, q2, q3⟩
  · rw [wpar, w2, ws 6 (by decide), ws 7 (by decide)]; exact iL
  · rw [ws 12 (by decide)]; exact iY g g0 g1
  · exact ws 0 (by decide)
  · exact ws 12 (by decide)
  · rw [w10, w11]; exact ⟨if_neg hg, if_neg hg⟩
  · rw [hn, w10]; exact if_pos rfl
  · rw [hn, w11]; exact if_pos rfl
  · rw [hn] at hb; rw [wm 2 (by decide), m3]; exact if_neg hb
  · rw [hn] at hx; rw [wm 3 (by decide)]; exact m7 x hx
  · rw [hn, wm 2 (by decide), m3]; exact if_pos rfl
  · rw [hn, wm 3 (by decide)]; exact m6 k k0 k1
end
def xFsync (N : Int) (st : PS) (f a : Int) (u : PS) : Prop := (¬ fOk f ∧ a = -1 ∧ u = st) ∨ (fOk f ∧ st 10 f = -1 ∧ a = -3 ∧ u = st) ∨ (fOk f ∧ st 10 f ≠ -1 ∧ st 12 f ≠ 0 ∧ a = 1 ∧ cpP st u) ∨ (fOk f ∧ st 10 f ≠ -1 ∧ st 12 f = 0 ∧ a = 0 ∧ ∃ (c : Nat) (s : PS), (s = st ∨ wpP st s) ∧ fsP (N + 1) c s f u)
end
section
set_option maxRecDepth 100000
set_option maxHeartbeats 4000000 in
/-- fsync(f) -/
theorem mx_fsync (l : Launch) (D : va_G) (cI cB : ClassId) (h0 : Nat) (ad : Nat → Nat) (st : PS) (N : Int) (c : Nat) (f : Int) (hN : N ≤ 800) (hI : InvC N c st) (hf : -2147483648 ≤ f ∧ f ≤ 2147483647) : MI l D cI cB (xw h0 ad cI cB) yX0_fsync cX0_fsync 5 (some .int) 5 111 [.ref h0, iv f] st (xFsync N st f) := by
  refine MI_of (by decide +kernel) (Nat.le_of_ble_eq_true rfl) (fun E hF hret => ?_)
  have hF : JF E l cX0_fsync RX0 5 (rmo 5 111) D cI cB := hF
  show J E 0 0 (xw h0 ad cI cB st) 0 [(0, .ref h0), (1, iv f)] []
  have hsv := hI.sv (by omega)
  have hN9 := hI.2.2.2.1
  refine j_aload_n hF dX0_fsync_0 rfl 0 rfl ?_
  refine j_iload_n hF dX0_fsync_1 rfl 1 rfl ?_
  refine j_calli (As := [iv f]) (n := 1) hF (mx_bad l D cI cB h0 ad st f hf) (lw_V q112 q114 qs6 q17 q115) (by decide +kernel) (by decide) ⟨Nat.le_of_ble_eq_true rfl, Nat.le_of_ble_eq_true rfl⟩ rfl 0 rfl rfl rfl [] rfl (by simp [Value.category]) dX0_fsync_2 (fun k u_k hb => ?_)
  obtain ⟨e_k, hb⟩ := hb
  rw [e_k]
  refine j_if_eq hF 10 dX0_fsync_5 (by decide) (by omega) (fun c0 => ?_) (fun c0 => ?_)
  · have hk : fOk f := by
      rcases hb with h | h
      · exact ⟨h.1, h.2.1⟩
      · omega
    obtain ⟨f0, f1⟩ := hk
    have o1 := (hI.1 f f0 f1).1
    have r1 := o1.rg
    have y1 := hI.2.2.2.2.2.2.2.2.2.2.2 f f0 f1
    have iC := hI.2.2.1
    refine j_aload_n hF dX0_fsync_10 rfl 0 rfl ?_
    refine xg10 hF dX0_fsync_11 ?_
    refine j_iload_n hF dX0_fsync_14 rfl 1 rfl ?_
    refine xl10 hF dX0_fsync_15 (by omega) ?_
    refine j_istore_n hF [(0, .ref h0), (1, iv f), (2, iv (st 10 f))] dX0_fsync_16 rfl (by decide) [1, 2, 0] rfl ?_
    refine j_iload_n hF dX0_fsync_17 rfl 2 rfl ?_
    refine j_iconst hF dX0_fsync_18 ?_
    refine j_icmp_ne hF 25 dX0_fsync_19 (by decide) (by omega) (by omega) (fun c1 => ?_) (fun c1 => ?_)
    · refine j_aload_n hF dX0_fsync_25 rfl 0 rfl ?_
      refine xg12 hF dX0_fsync_26 ?_
      refine j_iload_n hF dX0_fsync_29 rfl 1 rfl ?_
      refine xl12 hF dX0_fsync_30 (by omega) ?_
      refine j_if_eq hF 40 dX0_fsync_31 (by decide) (by omega) (fun c2 => ?_) (fun c2 => ?_)
      · have tail : ∀ (s : PS) (c' : Nat), (s = st ∨ wpP st s) → InvC (N + 1) c' s → c' < 20 → s 10 f ≠ -1 → J E 0 0 (xw h0 ad cI cB s) 53 [(0, .ref h0), (1, iv f), (2, iv (s 10 f))] [] := by
          intro s c' hs hJ hc ho
          obtain ⟨k1, k2, k3, k4, k5⟩ := (hJ.1 f f0 f1).1.resolve_left ho
          have hn := hJ.2.1
          have hne : s 10 f ≠ s 14 0 := (hJ.2.2.2.2.2.2.2.2.2.1 f f0 f1).1
          have jC := hJ.2.2.1
          have loop : ∀ (n : Nat) (k : Int) (u : PS), 4 - k < (n : Int) → 0 ≤ k → k ≤ 4 → fsI s f (s 14 0) k u → J E 0 0 (xw h0 ad cI cB u) 80 [(0, .ref h0), (1, iv f), (2, iv (s 10 f)), (3, iv (s 14 0)), (4, iv k)] [] := by
            intro n
            induction n with
            | zero => intro k u hm k0 k1' hu; omega
            | succ n ih =>
              intro k u hm k0 k1' hu
              refine j_iload hF dX0_fsync_80 4 rfl ?_
              refine j_iconst hF dX0_fsync_82 ?_
              refine j_icmp_ge hF 114 dX0_fsync_83 (by decide) (by omega) (by omega) (fun c4 => ?_) (fun c4 => ?_)
              · have e : k = 4 := by omega
                subst e
                have hM := fsI_e hu
                refine j_aload_n hF dX0_fsync_114 rfl 0 rfl ?_
                refine xg10 hF dX0_fsync_115 ?_
                refine j_iload_n hF dX0_fsync_118 rfl 1 rfl ?_
                refine j_iload_n hF dX0_fsync_119 rfl 3 rfl ?_
                refine xs10 hF dX0_fsync_120 (by omega) ?_
                refine j_aload_n hF dX0_fsync_121 rfl 0 rfl ?_
                refine xg11 hF dX0_fsync_122 ?_
                refine j_iload_n hF dX0_fsync_125 rfl 1 rfl ?_
                refine j_iload_n hF dX0_fsync_126 rfl 3 rfl ?_
                refine xs11 hF dX0_fsync_127 (by omega) ?_
                generalize sw (sw u 10 f (s 14 0)) 11 f (s 14 0) = m at hM ⊢
                refine j_aload_n hF dX0_fsync_128 rfl 0 rfl ?_
                refine j_aload_n hF dX0_fsync_129 rfl 0 rfl ?_
                refine j_calli (As := []) (n := 0) hF (mx_fresh l D cI cB h0 ad m (fsM_sv (by omega) hJ f0 f1 ho hM)) (lw_V q35 q37 qs2 q17 q38) (by decide +kernel) (by decide) ⟨Nat.le_of_ble_eq_true rfl, Nat.le_of_ble_eq_true rfl⟩ rfl 0 rfl rfl rfl [.ref h0] rfl (by simp [Value.category]) dX0_fsync_130 (fun a v hv => ?_)
                have v4 := hv.2.2.2.1
                have m14 : m 14 = s 14 := hM.1 14 (by decide)
                have e2 : v 14 2 = s 14 2 := by rw [v4 2 (by decide), m14]
                have e1 : v 14 1 = (c' : Int) := by rw [v4 1 (by decide), m14]; exact jC.1
                refine xps0 hF dX0_fsync_133 ?_
                refine j_aload_n hF dX0_fsync_136 rfl 0 rfl ?_
                refine xg5 hF dX0_fsync_137 ?_
                refine j_iload_n hF dX0_fsync_140 rfl 3 rfl ?_
                refine j_aload_n hF dX0_fsync_141 rfl 0 rfl ?_
                refine xgs0 hF dX0_fsync_142 ?_
                refine j_top (b := a) (by rw [sw_eq]) ?_
                refine xs5 hF dX0_fsync_145 (by omega) ?_
                refine j_aload_n hF dX0_fsync_146 rfl 0 rfl ?_
                refine xg4 hF dX0_fsync_147 ?_
                refine j_iload_n hF dX0_fsync_150 rfl 3 rfl ?_
                refine j_aload_n hF dX0_fsync_151 rfl 0 rfl ?_
                refine xgs2 hF dX0_fsync_152 ?_
                refine j_top (b := s 14 2) (by rw [sw_ne (by decide), sw_na (by decide), e2]) ?_
                refine xs4 hF dX0_fsync_155 (by omega) ?_
                refine j_aload_n hF dX0_fsync_156 rfl 0 rfl ?_
                refine j_dup hF dX0_fsync_157 rfl ?_
                refine xgs1 hF dX0_fsync_158 ?_
                refine j_top (b := (c' : Int)) (by rw [sw_ne (by decide), sw_ne (by decide), sw_na (by decide), e1]) ?_
                refine j_iconst hF dX0_fsync_161 ?_
                refine j_iadd hF dX0_fsync_162 ?_
                refine xps1 hF dX0_fsync_163 ?_
                refine j_iconst hF dX0_fsync_166 ?_
                exact hret 0 _ _ _ dX0_fsync_167 (Or.inr (Or.inr (Or.inr ⟨⟨f0, f1⟩, c1, c2, rfl, c', s, hs, fs_fin hJ hc f0 f1 ho hM hv⟩)))
              · refine j_aload_n hF dX0_fsync_86 rfl 0 rfl ?_
                refine xg3 hF dX0_fsync_87 ?_
                refine j_iload_n hF dX0_fsync_90 rfl 3 rfl ?_
                refine j_iconst hF dX0_fsync_91 ?_
                refine j_imul hF dX0_fsync_92 ?_
                refine j_iload hF dX0_fsync_93 4 rfl ?_
                refine j_iadd hF dX0_fsync_95 ?_
                refine j_aload_n hF dX0_fsync_96 rfl 0 rfl ?_
                refine xg3 hF dX0_fsync_97 ?_
                refine j_iload_n hF dX0_fsync_100 rfl 2 rfl ?_
                refine j_iconst hF dX0_fsync_101 ?_
                refine j_imul hF dX0_fsync_102 ?_
                refine j_iload hF dX0_fsync_103 4 rfl ?_
                refine j_iadd hF dX0_fsync_105 ?_
                refine xl3 hF dX0_fsync_106 (by omega) ?_
                refine j_top (b := s 3 (s 10 f * 4 + k)) (hu.2.2 _ (by omega)) ?_
                refine xs3 hF dX0_fsync_107 (by omega) ?_
                refine j_iinc hF [(0, .ref h0), (1, iv f), (2, iv (s 10 f)), (3, iv (s 14 0)), (4, iv (k + 1))] dX0_fsync_108 4 rfl (by decide) [1, 2, 3, 4, 0] rfl ?_
                refine j_goto hF 80 dX0_fsync_111 (by decide) ?_
                exact ih (k + 1) _ (by omega) (by omega) (by omega) (fsI_s hu k0)
          refine j_aload_n hF dX0_fsync_53 rfl 0 rfl ?_
          refine xgs0 hF dX0_fsync_54 ?_
          refine j_istore_n hF [(0, .ref h0), (1, iv f), (2, iv (s 10 f)), (3, iv (s 14 0))] dX0_fsync_57 rfl (by decide) [1, 2, 3, 0] rfl ?_
          refine j_aload_n hF dX0_fsync_58 rfl 0 rfl ?_
          refine xg1 hF dX0_fsync_59 ?_
          refine j_iload_n hF dX0_fsync_62 rfl 3 rfl ?_
          refine j_iload_n hF dX0_fsync_63 rfl 1 rfl ?_
          refine xs1 hF dX0_fsync_64 (by omega) ?_
          refine j_aload_n hF dX0_fsync_65 rfl 0 rfl ?_
          refine xg2 hF dX0_fsync_66 ?_
          refine j_iload_n hF dX0_fsync_69 rfl 3 rfl ?_
          refine j_aload_n hF dX0_fsync_70 rfl 0 rfl ?_
          refine xg2 hF dX0_fsync_71 ?_
          refine j_iload_n hF dX0_fsync_74 rfl 2 rfl ?_
          refine xl2 hF dX0_fsync_75 (by omega) ?_
          refine j_top (b := s 2 (s 10 f)) (by rw [sw_ne (by decide)]) ?_
          refine xs2 hF dX0_fsync_76 (by omega) ?_
          refine j_iconst hF dX0_fsync_77 ?_
          refine j_istore hF [(0, .ref h0), (1, iv f), (2, iv (s 10 f)), (3, iv (s 14 0)), (4, iv 0)] dX0_fsync_78 (by decide) [1, 2, 3, 4, 0] rfl ?_
          exact loop 5 0 _ (by omega) (by omega) (by omega) (fsI_0 s f (s 14 0))
        refine j_aload_n hF dX0_fsync_40 rfl 0 rfl ?_
        refine xgs1 hF dX0_fsync_41 ?_
        refine j_bipush hF dX0_fsync_44 (by decide) ?_
        refine j_icmp_ne hF 53 dX0_fsync_46 (by decide) (by omega) (by omega) (fun c3 => ?_) (fun c3 => ?_)
        · exact tail st c (Or.inl rfl) (hI.mono (by omega)) (by omega) c1
        · refine j_aload_n hF dX0_fsync_49 rfl 0 rfl ?_
          refine j_callv (As := []) (n := 0) hF (mx_writePack l D cI cB h0 ad st (hI.wpre (by omega))) (lw_V q31 q33 qs1 q17 q34) (by decide +kernel) (by decide) ⟨Nat.le_of_ble_eq_true rfl, Nat.le_of_ble_eq_true rfl⟩ rfl 0 rfl rfl rfl [] rfl (by simp [Value.category]) dX0_fsync_50 (fun s hs => ?_)
          have e10 : s 10 f = st 10 f := by rw [hs.1 10 (by decide)]
          rw [← e10]
          exact tail s 0 (Or.inr hs) (hs.2.mono (by omega)) (by decide) (by rw [e10]; exact c1)
      · refine j_aload_n hF dX0_fsync_34 rfl 0 rfl ?_
        refine j_callv (As := []) (n := 0) hF (mx_checkpoint l D cI cB h0 ad st (hI.cpre (by omega))) (lw_V q27 q29 qs0 q17 q30) (by decide +kernel) (by decide) ⟨Nat.le_of_ble_eq_true rfl, Nat.le_of_ble_eq_true rfl⟩ rfl 0 rfl rfl rfl [] rfl (by simp [Value.category]) dX0_fsync_35 (fun u hu => ?_)
        refine j_iconst hF dX0_fsync_38 ?_
        exact hret 1 u _ _ dX0_fsync_39 (Or.inr (Or.inr (Or.inl ⟨⟨f0, f1⟩, c1, c2, rfl, hu⟩)))
    · refine j_bipush hF dX0_fsync_22 (by decide) ?_
      exact hret (-3) st _ _ dX0_fsync_24 (Or.inr (Or.inl ⟨⟨f0, f1⟩, c1, rfl, rfl⟩))
  · have hk : ¬ fOk f := by
      rcases hb with h | h
      · omega
      · exact h.1
    refine j_iconst hF dX0_fsync_8 ?_
    exact hret (-1) st _ _ dX0_fsync_9 (Or.inl ⟨hk, rfl, rfl⟩)
end
section
def csum (g : Int → Int) : Nat → Int
  | 0 => 0
  | n + 1 => csum g n + g n
theorem csum_congr {g h : Int → Int} {n : Nat} (e : ∀ i : Int, 0 ≤ i → i < n → g i = h i) : csum g n = csum h n := by
  induction n with
  | zero => rfl
  | succ n ih =>
    show csum g n + g n = csum h n + h n
    rw [ih (fun i h0 h1 => e i h0 (by omega)), e n (by omega) (by omega)]
noncomputable def d01 (p : Prop) : Int := @ite Int p (Classical.propDecidable p) 1 0
theorem d01_t {p : Prop} (h : p) : d01 p = 1 := if_pos h
theorem d01_f {p : Prop} (h : ¬ p) : d01 p = 0 := if_neg h
theorem d01_c {p q : Prop} (h : p ↔ q) : d01 p = d01 q := by rw [propext h]
def cntX (st : PS) : Int := csum (fun f => if st 10 f = -1 then 0 else 1) 6
/-- whether two nodes differ in what they hold -/
def dif (st : PS) (x y : Int) : Prop := ((x = -1 ∨ y = -1) ∧ x ≠ y) ∨ ((x ≠ -1 ∧ y ≠ -1) ∧ (st 2 x ≠ st 2 y ∨ ∃ i : Int, 0 ≤ i ∧ i < st 2 x ∧ ¬ Int32.ofInt (st 0 (st 3 (x * 4 + i))) = Int32.ofInt (st 0 (st 3 (y * 4 + i)))))
def dgI (st : PS) (f i : Int) : Int := (8 * f + i + 1) * st 0 (st 3 (st 10 f * 4 + i))
def dgX (st : PS) (f : Int) : Int := if st 10 f = -1 then 0 else 1000 * (f + 1) * (st 2 (st 10 f) + 1) + csum (dgI st f) (st 2 (st 10 f)).toNat
def xSync (st : PS) (a : Int) (u : PS) : Prop := cpP st u ∧ a = cntX u
def xCrash (st : PS) (a : Int) (u : PS) : Prop := moP st u ∧ a = cntX u
def xExists (st : PS) (f a : Int) (u : PS) : Prop := u = st ∧ (((fOk f ∧ st 10 f ≠ -1) ∧ a = 1) ∨ (¬ (fOk f ∧ st 10 f ≠ -1) ∧ a = 0))
def xSize (st : PS) (f a : Int) (u : PS) : Prop := u = st ∧ ((¬ fOk f ∧ a = -1) ∨ (fOk f ∧ st 10 f = -1 ∧ a = -3) ∨ (fOk f ∧ st 10 f ≠ -1 ∧ a = st 2 (st 10 f)))
def xRead (st : PS) (f i a : Int) (u : PS) : Prop := u = st ∧ (((fOk f ∧ st 10 f ≠ -1 ∧ 0 ≤ i ∧ i < st 2 (st 10 f)) ∧ a = st 0 (st 3 (st 10 f * 4 + i))) ∨ (¬ (fOk f ∧ st 10 f ≠ -1 ∧ 0 ≤ i ∧ i < st 2 (st 10 f)) ∧ a = 0))
def xUns (st : PS) (a : Int) (u : PS) : Prop := u = st ∧ a = csum (fun f => d01 (dif st (st 10 f) (st 11 f))) 6
def xDigest (st : PS) (a : Int) (u : PS) : Prop := u = st ∧ a = csum (dgX st) 6
end
section
set_option maxRecDepth 100000
set_option maxHeartbeats 4000000 in
/-- count(): how many files there are -/
theorem mx_count (l : Launch) (D : va_G) (cI cB : ClassId) (h0 : Nat) (ad : Nat → Nat) (st : PS) (hA : ∀ f : Int, 0 ≤ f → f < 6 → -1 ≤ st 10 f ∧ st 10 f < 128) : MI l D cI cB (xw h0 ad cI cB) yX0_count cX0_count 3 (some .int) 0 0 [.ref h0] st (fun a u => u = st ∧ a = cntX st) := by
  refine MI_of (by decide +kernel) (Nat.le_of_ble_eq_true rfl) (fun E hF hret => ?_)
  have hF : JF E l cX0_count RX0 3 (rmo 0 0) D cI cB := hF
  show J E 0 0 (xw h0 ad cI cB st) 0 [(0, .ref h0)] []
  have loop : ∀ (n : Nat) (j : Nat), 6 - (j : Int) < (n : Int) → j ≤ 6 → J E 0 0 (xw h0 ad cI cB st) 4 [(0, .ref h0), (1, iv (csum (fun f => if st 10 f = -1 then 0 else 1) j)), (2, iv (j : Int))] [] := by
    intro n
    induction n with
    | zero => intro j hm j1; omega
    | succ n ih =>
      intro j hm j1
      refine j_iload_n hF dX0_count_4 rfl 2 rfl ?_
      refine j_bipush hF dX0_count_5 (by decide) ?_
      refine j_icmp_ge hF 29 dX0_count_7 (by decide) (by omega) (by omega) (fun c1 => ?_) (fun c1 => ?_)
      · have e : j = 6 := by omega
        subst e
        refine j_iload_n hF dX0_count_29 rfl 1 rfl ?_
        exact hret _ st _ _ dX0_count_30 ⟨rfl, rfl⟩
      · have r := hA j (by omega) (by omega)
        refine j_aload_n hF dX0_count_10 rfl 0 rfl ?_
        refine xg10 hF dX0_count_11 ?_
        refine j_iload_n hF dX0_count_14 rfl 2 rfl ?_
        refine xl10 hF dX0_count_15 (by omega) ?_
        refine j_iconst hF dX0_count_16 ?_
        refine j_icmp_eq hF 23 dX0_count_17 (by decide) (by omega) (by omega) (fun c2 => ?_) (fun c2 => ?_)
        · have e : csum (fun f => if st 10 f = -1 then 0 else 1) j = csum (fun f => if st 10 f = -1 then 0 else 1) (j + 1) := by
            show _ = csum _ j + if st 10 j = -1 then 0 else 1
            rw [if_pos c2, Int.add_zero]
          rw [e]
          refine j_iinc hF [(0, .ref h0), (1, iv (csum (fun f => if st 10 f = -1 then 0 else 1) (j + 1))), (2, iv ((j : Int) + 1))] dX0_count_23 2 rfl (by decide) [1, 2, 0] rfl ?_
          refine j_goto hF 4 dX0_count_26 (by decide) ?_
          exact ih (j + 1) (by omega) (by omega)
        · have e : csum (fun f => if st 10 f = -1 then 0 else 1) j + 1 = csum (fun f => if st 10 f = -1 then 0 else 1) (j + 1) := by
            show _ = csum _ j + if st 10 j = -1 then 0 else 1
            rw [if_neg c2]
          refine j_iinc hF [(0, .ref h0), (1, iv ((csum (fun f => if st 10 f = -1 then 0 else 1) j) + 1)), (2, iv (j : Int))] dX0_count_20 1 rfl (by decide) [1, 0, 2] rfl ?_
          rw [e]
          refine j_iinc hF [(0, .ref h0), (1, iv (csum (fun f => if st 10 f = -1 then 0 else 1) (j + 1))), (2, iv ((j : Int) + 1))] dX0_count_23 2 rfl (by decide) [1, 2, 0] rfl ?_
          refine j_goto hF 4 dX0_count_26 (by decide) ?_
          exact ih (j + 1) (by omega) (by omega)
  refine j_iconst hF dX0_count_0 ?_
  refine j_istore_n hF [(0, .ref h0), (1, iv 0)] dX0_count_1 rfl (by decide) [1, 0] rfl ?_
  refine j_iconst hF dX0_count_2 ?_
  refine j_istore_n hF [(0, .ref h0), (1, iv 0), (2, iv 0)] dX0_count_3 rfl (by decide) [1, 2, 0] rfl ?_
  exact loop 7 0 (by omega) (by omega)
set_option maxHeartbeats 4000000 in
/-- sync() -/
theorem mx_sync (l : Launch) (D : va_G) (cI cB : ClassId) (h0 : Nat) (ad : Nat → Nat) (st : PS) (N : Int) (c : Nat) (hN : N ≤ 900) (hI : InvC N c st) : MI l D cI cB (xw h0 ad cI cB) yX0_sync cX0_sync 1 (some .int) 5 111 [.ref h0] st (xSync st) := by
  refine MI_of (by decide +kernel) (Nat.le_of_ble_eq_true rfl) (fun E hF hret => ?_)
  have hF : JF E l cX0_sync RX0 1 (rmo 5 111) D cI cB := hF
  show J E 0 0 (xw h0 ad cI cB st) 0 [(0, .ref h0)] []
  refine j_aload_n hF dX0_sync_0 rfl 0 rfl ?_
  refine j_callv (As := []) (n := 0) hF (mx_checkpoint l D cI cB h0 ad st (hI.cpre (by omega))) (lw_V q27 q29 qs0 q17 q30) (by decide +kernel) (by decide) ⟨Nat.le_of_ble_eq_true rfl, Nat.le_of_ble_eq_true rfl⟩ rfl 0 rfl rfl rfl [] rfl (by simp [Value.category]) dX0_sync_1 (fun u hu => ?_)
  refine j_aload_n hF dX0_sync_4 rfl 0 rfl ?_
  refine j_calli (As := []) (n := 0) hF (mx_count l D cI cB h0 ad u (fun f f0 f1 => (hu.2.1.1 f f0 f1).1.rg)) (lw_V q144 q146 qs8 q17 q147) (by decide +kernel) (by decide) ⟨Nat.le_of_ble_eq_true rfl, Nat.le_of_ble_eq_true rfl⟩ rfl 0 rfl rfl rfl [] rfl (by simp [Value.category]) dX0_sync_5 (fun a w hw => ?_)
  obtain ⟨e, e'⟩ := hw
  subst e'
  rw [e]
  exact hret _ u _ _ dX0_sync_8 ⟨hu, rfl⟩
set_option maxHeartbeats 4000000 in
/-- crash() -/
theorem mx_crash (l : Launch) (D : va_G) (cI cB : ClassId) (h0 : Nat) (ad : Nat → Nat) (st : PS) (N : Int) (c : Nat) (hN : N ≤ 900) (hI : InvC N c st) : MI l D cI cB (xw h0 ad cI cB) yX0_crash cX0_crash 1 (some .int) 1 22 [.ref h0] st (xCrash st) := by
  refine MI_of (by decide +kernel) (Nat.le_of_ble_eq_true rfl) (fun E hF hret => ?_)
  have hF : JF E l cX0_crash RX0 1 (rmo 1 22) D cI cB := hF
  show J E 0 0 (xw h0 ad cI cB st) 0 [(0, .ref h0)] []
  refine j_aload_n hF dX0_crash_0 rfl 0 rfl ?_
  refine j_callv (As := []) (n := 0) hF (mx_mount l D cI cB h0 ad st N c hN hI) (lw_V q152 q154 qs9 q17 q155) (by decide +kernel) (by decide) ⟨Nat.le_of_ble_eq_true rfl, Nat.le_of_ble_eq_true rfl⟩ rfl 0 rfl rfl rfl [] rfl (by simp [Value.category]) dX0_crash_1 (fun u hu => ?_)
  refine j_aload_n hF dX0_crash_4 rfl 0 rfl ?_
  refine j_calli (As := []) (n := 0) hF (mx_count l D cI cB h0 ad u (fun f f0 f1 => by rw [(hu.2.2 f f0 f1).1]; exact (hI.1 f f0 f1).2.1.rg)) (lw_V q144 q146 qs8 q17 q147) (by decide +kernel) (by decide) ⟨Nat.le_of_ble_eq_true rfl, Nat.le_of_ble_eq_true rfl⟩ rfl 0 rfl rfl rfl [] rfl (by simp [Value.category]) dX0_crash_5 (fun a w hw => ?_)
  obtain ⟨e, e'⟩ := hw
  subst e'
  rw [e]
  exact hret _ u _ _ dX0_crash_8 ⟨hu, rfl⟩
set_option maxHeartbeats 4000000 in
/-- exists(f) -/
theorem mx_exists (l : Launch) (D : va_G) (cI cB : ClassId) (h0 : Nat) (ad : Nat → Nat) (st : PS) (N : Int) (c : Nat) (f : Int) (hN : N ≤ 900) (hI : InvC N c st) (hf : -2147483648 ≤ f ∧ f ≤ 2147483647) : MI l D cI cB (xw h0 ad cI cB) yX0_exists cX0_exists 2 (some .boolean) 1 21 [.ref h0, iv f] st (xExists st f) := by
  refine MI_ofZ (by decide +kernel) (Nat.le_of_ble_eq_true rfl) (fun E hF hret => ?_)
  have hF : JF E l cX0_exists RX0 2 (rmo 1 21) D cI cB := hF
  show J E 0 0 (xw h0 ad cI cB st) 0 [(0, .ref h0), (1, iv f)] []
  have hsv := hI.sv (by omega)
  have hN9 := hI.2.2.2.1
  refine j_aload_n hF dX0_exists_0 rfl 0 rfl ?_
  refine j_iload_n hF dX0_exists_1 rfl 1 rfl ?_
  refine j_calli (As := [iv f]) (n := 1) hF (mx_bad l D cI cB h0 ad st f hf) (lw_V q112 q114 qs6 q17 q115) (by decide +kernel) (by decide) ⟨Nat.le_of_ble_eq_true rfl, Nat.le_of_ble_eq_true rfl⟩ rfl 0 rfl rfl rfl [] rfl (by simp [Value.category]) dX0_exists_2 (fun k u_k hb => ?_)
  obtain ⟨e_k, hb⟩ := hb
  rw [e_k]
  refine j_if_ne hF 22 dX0_exists_5 (by decide) (by omega) (fun c0 => ?_) (fun c0 => ?_)
  · have hk : ¬ fOk f := by
      rcases hb with h | h
      · omega
      · exact h.1
    refine j_iconst hF dX0_exists_22 ?_
    exact hret 0 st _ _ dX0_exists_23 (Or.inl rfl) ⟨rfl, Or.inr ⟨fun h => hk h.1, rfl⟩⟩
  · have hk : fOk f := by
      rcases hb with h | h
      · exact ⟨h.1, h.2.1⟩
      · omega
    obtain ⟨f0, f1⟩ := hk
    have o1 := (hI.1 f f0 f1).1
    have r1 := o1.rg
    refine j_aload_n hF dX0_exists_8 rfl 0 rfl ?_
    refine xg10 hF dX0_exists_9 ?_
    refine j_iload_n hF dX0_exists_12 rfl 1 rfl ?_
    refine xl10 hF dX0_exists_13 (by omega) ?_
    refine j_iconst hF dX0_exists_14 ?_
    refine j_icmp_eq hF 22 dX0_exists_15 (by decide) (by omega) (by omega) (fun c1 => ?_) (fun c1 => ?_)
    · refine j_iconst hF dX0_exists_22 ?_
      exact hret 0 st _ _ dX0_exists_23 (Or.inl rfl) ⟨rfl, Or.inr ⟨fun h => h.2 c1, rfl⟩⟩
    · refine j_iconst hF dX0_exists_18 ?_
      refine j_goto hF 23 dX0_exists_19 (by decide) ?_
      exact hret 1 st _ _ dX0_exists_23 (Or.inr rfl) ⟨rfl, Or.inl ⟨⟨⟨f0, f1⟩, c1⟩, rfl⟩⟩
set_option maxHeartbeats 4000000 in
/-- size(f) -/
theorem mx_size (l : Launch) (D : va_G) (cI cB : ClassId) (h0 : Nat) (ad : Nat → Nat) (st : PS) (N : Int) (c : Nat) (f : Int) (hN : N ≤ 900) (hI : InvC N c st) (hf : -2147483648 ≤ f ∧ f ≤ 2147483647) : MI l D cI cB (xw h0 ad cI cB) yX0_size cX0_size 2 (some .int) 1 21 [.ref h0, iv f] st (xSize st f) := by
  refine MI_of (by decide +kernel) (Nat.le_of_ble_eq_true rfl) (fun E hF hret => ?_)
  have hF : JF E l cX0_size RX0 2 (rmo 1 21) D cI cB := hF
  show J E 0 0 (xw h0 ad cI cB st) 0 [(0, .ref h0), (1, iv f)] []
  have hsv := hI.sv (by omega)
  have hN9 := hI.2.2.2.1
  refine j_aload_n hF dX0_size_0 rfl 0 rfl ?_
  refine j_iload_n hF dX0_size_1 rfl 1 rfl ?_
  refine j_calli (As := [iv f]) (n := 1) hF (mx_bad l D cI cB h0 ad st f hf) (lw_V q112 q114 qs6 q17 q115) (by decide +kernel) (by decide) ⟨Nat.le_of_ble_eq_true rfl, Nat.le_of_ble_eq_true rfl⟩ rfl 0 rfl rfl rfl [] rfl (by simp [Value.category]) dX0_size_2 (fun k u_k hb => ?_)
  obtain ⟨e_k, hb⟩ := hb
  rw [e_k]
  refine j_if_eq hF 10 dX0_size_5 (by decide) (by omega) (fun c0 => ?_) (fun c0 => ?_)
  · have hk : fOk f := by
      rcases hb with h | h
      · exact ⟨h.1, h.2.1⟩
      · omega
    obtain ⟨f0, f1⟩ := hk
    have o1 := (hI.1 f f0 f1).1
    have r1 := o1.rg
    refine j_aload_n hF dX0_size_10 rfl 0 rfl ?_
    refine xg10 hF dX0_size_11 ?_
    refine j_iload_n hF dX0_size_14 rfl 1 rfl ?_
    refine xl10 hF dX0_size_15 (by omega) ?_
    refine j_iconst hF dX0_size_16 ?_
    refine j_icmp_ne hF 25 dX0_size_17 (by decide) (by omega) (by omega) (fun c1 => ?_) (fun c1 => ?_)
    · obtain ⟨k1, k2, k3, k4, k5⟩ := o1.resolve_left c1
      refine j_aload_n hF dX0_size_25 rfl 0 rfl ?_
      refine xg2 hF dX0_size_26 ?_
      refine j_aload_n hF dX0_size_29 rfl 0 rfl ?_
      refine xg10 hF dX0_size_30 ?_
      refine j_iload_n hF dX0_size_33 rfl 1 rfl ?_
      refine xl10 hF dX0_size_34 (by omega) ?_
      refine xl2 hF dX0_size_35 (by omega) ?_
      exact hret _ st _ _ dX0_size_36 ⟨rfl, Or.inr (Or.inr ⟨⟨f0, f1⟩, c1, rfl⟩)⟩
    · refine j_bipush hF dX0_size_20 (by decide) ?_
      refine j_goto hF 36 dX0_size_22 (by decide) ?_
      exact hret (-3) st _ _ dX0_size_36 ⟨rfl, Or.inr (Or.inl ⟨⟨f0, f1⟩, c1, rfl⟩)⟩
  · have hk : ¬ fOk f := by
      rcases hb with h | h
      · omega
      · exact h.1
    refine j_iconst hF dX0_size_8 ?_
    exact hret (-1) st _ _ dX0_size_9 ⟨rfl, Or.inl ⟨hk, rfl⟩⟩
set_option maxHeartbeats 4000000 in
/-- read(f, i) -/
theorem mx_read (l : Launch) (D : va_G) (cI cB : ClassId) (h0 : Nat) (ad : Nat → Nat) (st : PS) (N : Int) (c : Nat) (f i : Int) (hN : N ≤ 900) (hI : InvC N c st) (hf : -2147483648 ≤ f ∧ f ≤ 2147483647) (hi : -2147483648 ≤ i ∧ i ≤ 2147483647) : MI l D cI cB (xw h0 ad cI cB) yX0_read cX0_read 3 (some .int) 1 21 [.ref h0, iv f, iv i] st (xRead st f i) := by
  refine MI_of (by decide +kernel) (Nat.le_of_ble_eq_true rfl) (fun E hF hret => ?_)
  have hF : JF E l cX0_read RX0 3 (rmo 1 21) D cI cB := hF
  show J E 0 0 (xw h0 ad cI cB st) 0 [(0, .ref h0), (1, iv f), (2, iv i)] []
  have hsv := hI.sv (by omega)
  have hN9 := hI.2.2.2.1
  refine j_aload_n hF dX0_read_0 rfl 0 rfl ?_
  refine j_iload_n hF dX0_read_1 rfl 1 rfl ?_
  refine j_calli (As := [iv f]) (n := 1) hF (mx_bad l D cI cB h0 ad st f hf) (lw_V q112 q114 qs6 q17 q115) (by decide +kernel) (by decide) ⟨Nat.le_of_ble_eq_true rfl, Nat.le_of_ble_eq_true rfl⟩ rfl 0 rfl rfl rfl [] rfl (by simp [Value.category]) dX0_read_2 (fun k u_k hb => ?_)
  obtain ⟨e_k, hb⟩ := hb
  rw [e_k]
  refine j_if_ne hF 37 dX0_read_5 (by decide) (by omega) (fun c0 => ?_) (fun c0 => ?_)
  · have hk : ¬ fOk f := by
      rcases hb with h | h
      · omega
      · exact h.1
    refine j_iconst hF dX0_read_37 ?_
    exact hret 0 st _ _ dX0_read_38 ⟨rfl, Or.inr ⟨fun h => hk h.1, rfl⟩⟩
  · have hk : fOk f := by
      rcases hb with h | h
      · exact ⟨h.1, h.2.1⟩
      · omega
    obtain ⟨f0, f1⟩ := hk
    have o1 := (hI.1 f f0 f1).1
    have r1 := o1.rg
    refine j_aload_n hF dX0_read_8 rfl 0 rfl ?_
    refine xg10 hF dX0_read_9 ?_
    refine j_iload_n hF dX0_read_12 rfl 1 rfl ?_
    refine xl10 hF dX0_read_13 (by omega) ?_
    refine j_iconst hF dX0_read_14 ?_
    refine j_icmp_eq hF 37 dX0_read_15 (by decide) (by omega) (by omega) (fun c1 => ?_) (fun c1 => ?_)
    · refine j_iconst hF dX0_read_37 ?_
      exact hret 0 st _ _ dX0_read_38 ⟨rfl, Or.inr ⟨fun h => h.2.1 c1, rfl⟩⟩
    · obtain ⟨k1, k2, k3, k4, k5⟩ := o1.resolve_left c1
      refine j_iload_n hF dX0_read_18 rfl 2 rfl ?_
      refine j_if_lt hF 37 dX0_read_19 (by decide) (by omega) (fun c2 => ?_) (fun c2 => ?_)
      · refine j_iconst hF dX0_read_37 ?_
        exact hret 0 st _ _ dX0_read_38 ⟨rfl, Or.inr ⟨fun h => by have := h.2.2.1; omega, rfl⟩⟩
      · refine j_iload_n hF dX0_read_22 rfl 2 rfl ?_
        refine j_aload_n hF dX0_read_23 rfl 0 rfl ?_
        refine xg2 hF dX0_read_24 ?_
        refine j_aload_n hF dX0_read_27 rfl 0 rfl ?_
        refine xg10 hF dX0_read_28 ?_
        refine j_iload_n hF dX0_read_31 rfl 1 rfl ?_
        refine xl10 hF dX0_read_32 (by omega) ?_
        refine xl2 hF dX0_read_33 (by omega) ?_
        refine j_icmp_lt hF 39 dX0_read_34 (by decide) (by omega) (by omega) (fun c3 => ?_) (fun c3 => ?_)
        · have k6 := k5 i (by omega) c3
          refine j_aload_n hF dX0_read_39 rfl 0 rfl ?_
          refine xg0 hF dX0_read_40 ?_
          refine j_aload_n hF dX0_read_43 rfl 0 rfl ?_
          refine xg3 hF dX0_read_44 ?_
          refine j_aload_n hF dX0_read_47 rfl 0 rfl ?_
          refine xg10 hF dX0_read_48 ?_
          refine j_iload_n hF dX0_read_51 rfl 1 rfl ?_
          refine xl10 hF dX0_read_52 (by omega) ?_
          refine j_iconst hF dX0_read_53 ?_
          refine j_imul hF dX0_read_54 ?_
          refine j_iload_n hF dX0_read_55 rfl 2 rfl ?_
          refine j_iadd hF dX0_read_56 ?_
          refine xl3 hF dX0_read_57 (by omega) ?_
          refine xl0 hF dX0_read_58 (by omega) ?_
          exact hret _ st _ _ dX0_read_59 ⟨rfl, Or.inl ⟨⟨⟨f0, f1⟩, c1, by omega, c3⟩, rfl⟩⟩
        · refine j_iconst hF dX0_read_37 ?_
          exact hret 0 st _ _ dX0_read_38 ⟨rfl, Or.inr ⟨fun h => c3 h.2.2.2, rfl⟩⟩
set_option maxHeartbeats 4000000 in
/-- differs(x, y) -/
theorem mx_differs (l : Launch) (D : va_G) (cI cB : ClassId) (h0 : Nat) (ad : Nat → Nat) (st : PS) (x y : Int) (hx : okM st x) (hy : okM st y) : MI l D cI cB (xw h0 ad cI cB) yX0_differs cX0_differs 4 (some .boolean) 0 0 [.ref h0, iv x, iv y] st (fun a u => u = st ∧ ((dif st x y ∧ a = 1) ∨ (¬ dif st x y ∧ a = 0))) := by
  refine MI_ofZ (by decide +kernel) (Nat.le_of_ble_eq_true rfl) (fun E hF hret => ?_)
  have hF : JF E l cX0_differs RX0 4 (rmo 0 0) D cI cB := hF
  show J E 0 0 (xw h0 ad cI cB st) 0 [(0, .ref h0), (1, iv x), (2, iv y)] []
  have rx := hx.rg
  have ry := hy.rg
  have at10 : (x = -1 ∨ y = -1) → J E 0 0 (xw h0 ad cI cB st) 10 [(0, .ref h0), (1, iv x), (2, iv y)] [] := by
    intro hm
    refine j_iload_n hF dX0_differs_10 rfl 1 rfl ?_
    refine j_iload_n hF dX0_differs_11 rfl 2 rfl ?_
    refine j_icmp_eq hF 19 dX0_differs_12 (by decide) (by omega) (by omega) (fun c1 => ?_) (fun c1 => ?_)
    · refine j_iconst hF dX0_differs_19 ?_
      exact hret 0 st _ _ dX0_differs_20 (Or.inl rfl) ⟨rfl, Or.inr ⟨fun h => by rcases h with h | h <;> omega, rfl⟩⟩
    · refine j_iconst hF dX0_differs_15 ?_
      refine j_goto hF 20 dX0_differs_16 (by decide) ?_
      exact hret 1 st _ _ dX0_differs_20 (Or.inr rfl) ⟨rfl, Or.inl ⟨Or.inl ⟨hm, c1⟩, rfl⟩⟩
  refine j_iload_n hF dX0_differs_0 rfl 1 rfl ?_
  refine j_iconst hF dX0_differs_1 ?_
  refine j_icmp_eq hF 10 dX0_differs_2 (by decide) (by omega) (by omega) (fun c1 => ?_) (fun c1 => ?_)
  · exact at10 (Or.inl c1)
  · refine j_iload_n hF dX0_differs_5 rfl 2 rfl ?_
    refine j_iconst hF dX0_differs_6 ?_
    refine j_icmp_ne hF 21 dX0_differs_7 (by decide) (by omega) (by omega) (fun c2 => ?_) (fun c2 => ?_)
    · obtain ⟨k1, k2, k3, k4, k5⟩ := hx.resolve_left c1
      obtain ⟨m1, m2, m3, m4, m5⟩ := hy.resolve_left c2
      refine j_aload_n hF dX0_differs_21 rfl 0 rfl ?_
      refine xg2 hF dX0_differs_22 ?_
      refine j_iload_n hF dX0_differs_25 rfl 1 rfl ?_
      refine xl2 hF dX0_differs_26 (by omega) ?_
      refine j_aload_n hF dX0_differs_27 rfl 0 rfl ?_
      refine xg2 hF dX0_differs_28 ?_
      refine j_iload_n hF dX0_differs_31 rfl 2 rfl ?_
      refine xl2 hF dX0_differs_32 (by omega) ?_
      refine j_icmp_eq hF 38 dX0_differs_33 (by decide) (by omega) (by omega) (fun c3 => ?_) (fun c3 => ?_)
      · have loop : ∀ (n : Nat) (i : Int), st 2 x - i < (n : Int) → 0 ≤ i → i ≤ st 2 x → (∀ j : Int, 0 ≤ j → j < i → Int32.ofInt (st 0 (st 3 (x * 4 + j))) = Int32.ofInt (st 0 (st 3 (y * 4 + j)))) → J E 0 0 (xw h0 ad cI cB st) 40 [(0, .ref h0), (1, iv x), (2, iv y), (3, iv i)] [] := by
          intro n
          induction n with
          | zero => intro i hm i0 i1 hI; omega
          | succ n ih =>
            intro i hm i0 i1 hI
            refine j_iload_n hF dX0_differs_40 rfl 3 rfl ?_
            refine j_aload_n hF dX0_differs_41 rfl 0 rfl ?_
            refine xg2 hF dX0_differs_42 ?_
            refine j_iload_n hF dX0_differs_45 rfl 1 rfl ?_
            refine xl2 hF dX0_differs_46 (by omega) ?_
            refine j_icmp_ge hF 91 dX0_differs_47 (by decide) (by omega) (by omega) (fun c4 => ?_) (fun c4 => ?_)
            · refine j_iconst hF dX0_differs_91 ?_
              refine hret 0 st _ _ dX0_differs_92 (Or.inl rfl) ⟨rfl, Or.inr ⟨fun h => ?_, rfl⟩⟩
              rcases h with h | ⟨-, h | ⟨j, j0, j1, h⟩⟩
              · omega
              · exact h c3
              · exact h (hI j j0 (by omega))
            · have k6 := k5 i i0 (by omega)
              have m6 := m5 i i0 (by omega)
              refine j_aload_n hF dX0_differs_50 rfl 0 rfl ?_
              refine xg0 hF dX0_differs_51 ?_
              refine j_aload_n hF dX0_differs_54 rfl 0 rfl ?_
              refine xg3 hF dX0_differs_55 ?_
              refine j_iload_n hF dX0_differs_58 rfl 1 rfl ?_
              refine j_iconst hF dX0_differs_59 ?_
              refine j_imul hF dX0_differs_60 ?_
              refine j_iload_n hF dX0_differs_61 rfl 3 rfl ?_
              refine j_iadd hF dX0_differs_62 ?_
              refine xl3 hF dX0_differs_63 (by omega) ?_
              refine xl0 hF dX0_differs_64 (by omega) ?_
              refine j_aload_n hF dX0_differs_65 rfl 0 rfl ?_
              refine xg0 hF dX0_differs_66 ?_
              refine j_aload_n hF dX0_differs_69 rfl 0 rfl ?_
              refine xg3 hF dX0_differs_70 ?_
              refine j_iload_n hF dX0_differs_73 rfl 2 rfl ?_
              refine j_iconst hF dX0_differs_74 ?_
              refine j_imul hF dX0_differs_75 ?_
              refine j_iload_n hF dX0_differs_76 rfl 3 rfl ?_
              refine j_iadd hF dX0_differs_77 ?_
              refine xl3 hF dX0_differs_78 (by omega) ?_
              refine xl0 hF dX0_differs_79 (by omega) ?_
              refine j_wcmp_eq hF 85 dX0_differs_80 (by decide) (fun c5 => ?_) (fun c5 => ?_)
              · refine j_iinc hF [(0, .ref h0), (1, iv x), (2, iv y), (3, iv (i + 1))] dX0_differs_85 3 rfl (by decide) [1, 2, 3, 0] rfl ?_
                refine j_goto hF 40 dX0_differs_88 (by decide) ?_
                refine ih (i + 1) (by omega) (by omega) (by omega) (fun j j0 j1 => ?_)
                by_cases hj : j = i
                · subst hj; exact c5
                · exact hI j j0 (by omega)
              · refine j_iconst hF dX0_differs_83 ?_
                exact hret 1 st _ _ dX0_differs_84 (Or.inr rfl) ⟨rfl, Or.inl ⟨Or.inr ⟨⟨c1, c2⟩, Or.inr ⟨i, i0, by omega, c5⟩⟩, rfl⟩⟩
        refine j_iconst hF dX0_differs_38 ?_
        refine j_istore_n hF [(0, .ref h0), (1, iv x), (2, iv y), (3, iv 0)] dX0_differs_39 rfl (by decide) [1, 2, 3, 0] rfl ?_
        exact loop 5 0 (by omega) (by omega) (by omega) (fun j j0 j1 => by omega)
      · refine j_iconst hF dX0_differs_36 ?_
        exact hret 1 st _ _ dX0_differs_37 (Or.inr rfl) ⟨rfl, Or.inl ⟨Or.inr ⟨⟨c1, c2⟩, Or.inl c3⟩, rfl⟩⟩
    · exact at10 (Or.inr c2)
set_option maxHeartbeats 4000000 in
/-- how many files differ from what lasts -/
theorem mx_uns (l : Launch) (D : va_G) (cI cB : ClassId) (h0 : Nat) (ad : Nat → Nat) (st : PS) (N : Int) (c : Nat) (hN : N ≤ 900) (hI : InvC N c st) : MI l D cI cB (xw h0 ad cI cB) yX0_uns cX0_uns 4 (some .int) 1 23 [.ref h0] st (xUns st) := by
  refine MI_of (by decide +kernel) (Nat.le_of_ble_eq_true rfl) (fun E hF hret => ?_)
  have hF : JF E l cX0_uns RX0 4 (rmo 1 23) D cI cB := hF
  show J E 0 0 (xw h0 ad cI cB st) 0 [(0, .ref h0)] []
  have loop : ∀ (n : Nat) (j : Nat), 6 - (j : Int) < (n : Int) → j ≤ 6 → J E 0 0 (xw h0 ad cI cB st) 4 [(0, .ref h0), (1, iv (csum (fun f => d01 (dif st (st 10 f) (st 11 f))) j)), (2, iv (j : Int))] [] := by
    intro n
    induction n with
    | zero => intro j hm j1; omega
    | succ n ih =>
      intro j hm j1
      refine j_iload_n hF dX0_uns_4 rfl 2 rfl ?_
      refine j_bipush hF dX0_uns_5 (by decide) ?_
      refine j_icmp_ge hF 40 dX0_uns_7 (by decide) (by omega) (by omega) (fun c1 => ?_) (fun c1 => ?_)
      · have e : j = 6 := by omega
        subst e
        refine j_iload_n hF dX0_uns_40 rfl 1 rfl ?_
        exact hret _ st _ _ dX0_uns_41 ⟨rfl, rfl⟩
      · obtain ⟨o1, o2, -⟩ := hI.1 j (by omega) (by omega)
        refine j_aload_n hF dX0_uns_10 rfl 0 rfl ?_
        refine j_aload_n hF dX0_uns_11 rfl 0 rfl ?_
        refine xg10 hF dX0_uns_12 ?_
        refine j_iload_n hF dX0_uns_15 rfl 2 rfl ?_
        refine xl10 hF dX0_uns_16 (by omega) ?_
        refine j_aload_n hF dX0_uns_17 rfl 0 rfl ?_
        refine xg11 hF dX0_uns_18 ?_
        refine j_iload_n hF dX0_uns_21 rfl 2 rfl ?_
        refine xl11 hF dX0_uns_22 (by omega) ?_
        refine j_calli (As := [iv (st 10 (j : Int)), iv (st 11 (j : Int))]) (n := 2) hF (mx_differs l D cI cB h0 ad st (st 10 (j : Int)) (st 11 (j : Int)) o1 o2) (lw_V q172 q174 qs10 q17 q175) (by decide +kernel) (by decide) ⟨Nat.le_of_ble_eq_true rfl, Nat.le_of_ble_eq_true rfl⟩ rfl 0 rfl rfl rfl [] rfl (by simp [Value.category]) dX0_uns_23 (fun k u hu => ?_)
        obtain ⟨e, hu⟩ := hu
        rw [e]
        have hk : k = d01 (dif st (st 10 (j : Int)) (st 11 (j : Int))) ∧ (k = 0 ∨ k = 1) := by
          rcases hu with ⟨h, h'⟩ | ⟨h, h'⟩
          · exact ⟨by rw [d01_t h, h'], Or.inr h'⟩
          · exact ⟨by rw [d01_f h, h'], Or.inl h'⟩
        obtain ⟨hk, hk2⟩ := hk
        refine j_istore_n hF [(0, .ref h0), (1, iv (csum (fun f => d01 (dif st (st 10 f) (st 11 f))) j)), (2, iv (j : Int)), (3, iv k)] dX0_uns_26 rfl (by decide) [1, 2, 3, 0] rfl ?_
        refine j_iload_n hF dX0_uns_27 rfl 3 rfl ?_
        refine j_if_eq hF 34 dX0_uns_28 (by decide) (by omega) (fun c2 => ?_) (fun c2 => ?_)
        · have e : csum (fun f => d01 (dif st (st 10 f) (st 11 f))) j = csum (fun f => d01 (dif st (st 10 f) (st 11 f))) (j + 1) := by
            show _ = csum _ j + d01 (dif st (st 10 (j : Int)) (st 11 (j : Int)))
            rw [← hk, c2, Int.add_zero]
          rw [e]
          refine j_iinc hF [(0, .ref h0), (1, iv (csum (fun f => d01 (dif st (st 10 f) (st 11 f))) (j + 1))), (2, iv ((j : Int) + 1)), (3, iv k)] dX0_uns_34 2 rfl (by decide) [1, 2, 0, 3] rfl ?_
          refine j_goto hF 4 dX0_uns_37 (by decide) ?_
          exact j_loc [0, 1, 2] rfl (ih (j + 1) (by omega) (by omega))
        · have e : csum (fun f => d01 (dif st (st 10 f) (st 11 f))) j + 1 = csum (fun f => d01 (dif st (st 10 f) (st 11 f))) (j + 1) := by
            show _ = csum _ j + d01 (dif st (st 10 (j : Int)) (st 11 (j : Int)))
            rw [← hk, hk2.resolve_left c2]
          refine j_iinc hF [(0, .ref h0), (1, iv ((csum (fun f => d01 (dif st (st 10 f) (st 11 f))) j) + 1)), (2, iv (j : Int)), (3, iv k)] dX0_uns_31 1 rfl (by decide) [1, 0, 2, 3] rfl ?_
          rw [e]
          refine j_iinc hF [(0, .ref h0), (1, iv (csum (fun f => d01 (dif st (st 10 f) (st 11 f))) (j + 1))), (2, iv ((j : Int) + 1)), (3, iv k)] dX0_uns_34 2 rfl (by decide) [1, 2, 0, 3] rfl ?_
          refine j_goto hF 4 dX0_uns_37 (by decide) ?_
          exact j_loc [0, 1, 2] rfl (ih (j + 1) (by omega) (by omega))
  refine j_iconst hF dX0_uns_0 ?_
  refine j_istore_n hF [(0, .ref h0), (1, iv 0)] dX0_uns_1 rfl (by decide) [1, 0] rfl ?_
  refine j_iconst hF dX0_uns_2 ?_
  refine j_istore_n hF [(0, .ref h0), (1, iv 0), (2, iv 0)] dX0_uns_3 rfl (by decide) [1, 2, 0] rfl ?_
  exact loop 7 0 (by omega) (by omega)
set_option maxHeartbeats 4000000 in
/-- digest() -/
theorem mx_digest (l : Launch) (D : va_G) (cI cB : ClassId) (h0 : Nat) (ad : Nat → Nat) (st : PS) (N : Int) (c : Nat) (hN : N ≤ 900) (hI : InvC N c st) : MI l D cI cB (xw h0 ad cI cB) yX0_digest cX0_digest 5 (some .int) 0 0 [.ref h0] st (xDigest st) := by
  refine MI_of (by decide +kernel) (Nat.le_of_ble_eq_true rfl) (fun E hF hret => ?_)
  have hF : JF E l cX0_digest RX0 5 (rmo 0 0) D cI cB := hF
  show J E 0 0 (xw h0 ad cI cB st) 0 [(0, .ref h0)] []
  have loop : ∀ (n : Nat) (j : Nat), 6 - (j : Int) < (n : Int) → j ≤ 6 → J E 0 0 (xw h0 ad cI cB st) 4 [(0, .ref h0), (1, iv (csum (dgX st) j)), (2, iv (j : Int))] [] := by
    intro n
    induction n with
    | zero => intro j hm j1; omega
    | succ n ih =>
      intro j hm j1
      refine j_iload_n hF dX0_digest_4 rfl 2 rfl ?_
      refine j_bipush hF dX0_digest_5 (by decide) ?_
      refine j_icmp_ge hF 96 dX0_digest_7 (by decide) (by omega) (by omega) (fun c1 => ?_) (fun c1 => ?_)
      · have e : j = 6 := by omega
        subst e
        refine j_iload_n hF dX0_digest_96 rfl 1 rfl ?_
        exact hret _ st _ _ dX0_digest_97 ⟨rfl, rfl⟩
      · have o1 := (hI.1 j (by omega) (by omega)).1
        have r1 := o1.rg
        refine j_aload_n hF dX0_digest_10 rfl 0 rfl ?_
        refine xg10 hF dX0_digest_11 ?_
        refine j_iload_n hF dX0_digest_14 rfl 2 rfl ?_
        refine xl10 hF dX0_digest_15 (by omega) ?_
        refine j_istore_n hF [(0, .ref h0), (1, iv (csum (dgX st) j)), (2, iv (j : Int)), (3, iv (st 10 (j : Int)))] dX0_digest_16 rfl (by decide) [1, 2, 3, 0] rfl ?_
        refine j_iload_n hF dX0_digest_17 rfl 3 rfl ?_
        refine j_iconst hF dX0_digest_18 ?_
        refine j_icmp_eq hF 90 dX0_digest_19 (by decide) (by omega) (by omega) (fun c2 => ?_) (fun c2 => ?_)
        · have e : csum (dgX st) j = csum (dgX st) (j + 1) := by
            show _ = csum _ j + dgX st j
            rw [dgX, if_pos c2, Int.add_zero]
          rw [e]
          refine j_iinc hF [(0, .ref h0), (1, iv (csum (dgX st) (j + 1))), (2, iv ((j : Int) + 1)), (3, iv (st 10 (j : Int)))] dX0_digest_90 2 rfl (by decide) [1, 2, 0, 3] rfl ?_
          refine j_goto hF 4 dX0_digest_93 (by decide) ?_
          exact j_loc [0, 1, 2] rfl (ih (j + 1) (by omega) (by omega))
        · obtain ⟨k1, k2, k3, k4, k5⟩ := o1.resolve_left c2
          have loop2 : ∀ (n : Nat) (i : Nat), st 2 (st 10 (j : Int)) - (i : Int) < (n : Int) → (i : Int) ≤ st 2 (st 10 (j : Int)) → J E 0 0 (xw h0 ad cI cB st) 44 [(0, .ref h0), (1, iv (csum (dgX st) j + 1000 * ((j : Int) + 1) * (st 2 (st 10 (j : Int)) + 1) + csum (dgI st j) i)), (2, iv (j : Int)), (3, iv (st 10 (j : Int))), (4, iv (i : Int))] [] := by
            intro n
            induction n with
            | zero => intro i hm2 i1; omega
            | succ n ih2 =>
              intro i hm2 i1
              refine j_iload hF dX0_digest_44 4 rfl ?_
              refine j_aload_n hF dX0_digest_46 rfl 0 rfl ?_
              refine xg2 hF dX0_digest_47 ?_
              refine j_iload_n hF dX0_digest_50 rfl 3 rfl ?_
              refine xl2 hF dX0_digest_51 (by omega) ?_
              refine j_icmp_ge hF 90 dX0_digest_52 (by decide) (by omega) (by omega) (fun c3 => ?_) (fun c3 => ?_)
              · have e : csum (dgX st) j + 1000 * ((j : Int) + 1) * (st 2 (st 10 (j : Int)) + 1) + csum (dgI st j) i = csum (dgX st) (j + 1) := by
                  show _ = csum _ j + dgX st j
                  rw [dgX, if_neg c2, Int.add_assoc, show (st 2 (st 10 (j : Int))).toNat = i by omega]
                rw [e]
                refine j_iinc hF [(0, .ref h0), (1, iv (csum (dgX st) (j + 1))), (2, iv ((j : Int) + 1)), (3, iv (st 10 (j : Int))), (4, iv (i : Int))] dX0_digest_90 2 rfl (by decide) [1, 2, 0, 3, 4] rfl ?_
                refine j_goto hF 4 dX0_digest_93 (by decide) ?_
                exact j_loc [0, 1, 2] rfl (ih (j + 1) (by omega) (by omega))
              · have k6 := k5 i (by omega) (by omega)
                refine j_iload_n hF dX0_digest_55 rfl 1 rfl ?_
                refine j_bipush hF dX0_digest_56 (by decide) ?_
                refine j_iload_n hF dX0_digest_58 rfl 2 rfl ?_
                refine j_imul hF dX0_digest_59 ?_
                refine j_iload hF dX0_digest_60 4 rfl ?_
                refine j_iadd hF dX0_digest_62 ?_
                refine j_iconst hF dX0_digest_63 ?_
                refine j_iadd hF dX0_digest_64 ?_
                refine j_aload_n hF dX0_digest_65 rfl 0 rfl ?_
                refine xg0 hF dX0_digest_66 ?_
                refine j_aload_n hF dX0_digest_69 rfl 0 rfl ?_
                refine xg3 hF dX0_digest_70 ?_
                refine j_iload_n hF dX0_digest_73 rfl 3 rfl ?_
                refine j_iconst hF dX0_digest_74 ?_
                refine j_imul hF dX0_digest_75 ?_
                refine j_iload hF dX0_digest_76 4 rfl ?_
                refine j_iadd hF dX0_digest_78 ?_
                refine xl3 hF dX0_digest_79 (by omega) ?_
                refine xl0 hF dX0_digest_80 (by omega) ?_
                refine j_imul hF dX0_digest_81 ?_
                refine j_iadd hF dX0_digest_82 ?_
                refine j_top (b := csum (dgX st) j + 1000 * ((j : Int) + 1) * (st 2 (st 10 (j : Int)) + 1) + csum (dgI st j) (i + 1)) (by rw [show csum (dgI st j) (i + 1) = csum (dgI st j) i + (8 * (j : Int) + i + 1) * st 0 (st 3 (st 10 (j : Int) * 4 + i)) from rfl, ← Int.add_assoc]) ?_
                refine j_istore_n hF [(0, .ref h0), (1, iv (csum (dgX st) j + 1000 * ((j : Int) + 1) * (st 2 (st 10 (j : Int)) + 1) + csum (dgI st j) (i + 1))), (2, iv (j : Int)), (3, iv (st 10 (j : Int))), (4, iv (i : Int))] dX0_digest_83 rfl (by decide) [1, 0, 2, 3, 4] rfl ?_
                refine j_iinc hF [(0, .ref h0), (1, iv (csum (dgX st) j + 1000 * ((j : Int) + 1) * (st 2 (st 10 (j : Int)) + 1) + csum (dgI st j) (i + 1))), (2, iv (j : Int)), (3, iv (st 10 (j : Int))), (4, iv ((i : Int) + 1))] dX0_digest_84 4 rfl (by decide) [1, 2, 3, 4, 0] rfl ?_
                refine j_goto hF 44 dX0_digest_87 (by decide) ?_
                exact ih2 (i + 1) (by omega) (by omega)
          refine j_iload_n hF dX0_digest_22 rfl 1 rfl ?_
          refine j_sipush hF dX0_digest_23 (by decide) ?_
          refine j_iload_n hF dX0_digest_26 rfl 2 rfl ?_
          refine j_iconst hF dX0_digest_27 ?_
          refine j_iadd hF dX0_digest_28 ?_
          refine j_imul hF dX0_digest_29 ?_
          refine j_aload_n hF dX0_digest_30 rfl 0 rfl ?_
          refine xg2 hF dX0_digest_31 ?_
          refine j_iload_n hF dX0_digest_34 rfl 3 rfl ?_
          refine xl2 hF dX0_digest_35 (by omega) ?_
          refine j_iconst hF dX0_digest_36 ?_
          refine j_iadd hF dX0_digest_37 ?_
          refine j_imul hF dX0_digest_38 ?_
          refine j_iadd hF dX0_digest_39 ?_
          refine j_top (b := csum (dgX st) j + 1000 * ((j : Int) + 1) * (st 2 (st 10 (j : Int)) + 1) + csum (dgI st j) 0) (by rw [show csum (dgI st j) 0 = 0 from rfl, Int.add_zero]) ?_
          refine j_istore_n hF [(0, .ref h0), (1, iv (csum (dgX st) j + 1000 * ((j : Int) + 1) * (st 2 (st 10 (j : Int)) + 1) + csum (dgI st j) 0)), (2, iv (j : Int)), (3, iv (st 10 (j : Int)))] dX0_digest_40 rfl (by decide) [1, 0, 2, 3] rfl ?_
          refine j_iconst hF dX0_digest_41 ?_
          refine j_istore hF [(0, .ref h0), (1, iv (csum (dgX st) j + 1000 * ((j : Int) + 1) * (st 2 (st 10 (j : Int)) + 1) + csum (dgI st j) 0)), (2, iv (j : Int)), (3, iv (st 10 (j : Int))), (4, iv 0)] dX0_digest_42 (by decide) [1, 2, 3, 4, 0] rfl ?_
          exact loop2 5 0 (by omega) (by omega)
  refine j_iconst hF dX0_digest_0 ?_
  refine j_istore_n hF [(0, .ref h0), (1, iv 0)] dX0_digest_1 rfl (by decide) [1, 0] rfl ?_
  refine j_iconst hF dX0_digest_2 ?_
  refine j_istore_n hF [(0, .ref h0), (1, iv 0), (2, iv 0)] dX0_digest_3 rfl (by decide) [1, 2, 0] rfl ?_
  exact loop 7 0 (by omega) (by omega)
end
section
/-! PURE WORDS of the class NodeTableFilesModel (state st: arrays 0 there, 1 sizes, 2 words, 3 young) -/
def InvM (st : PS) : Prop := (∀ g : Int, 0 ≤ g → g < 12 → (st 0 g = 0 ∨ st 0 g = 1) ∧ 0 ≤ st 1 g ∧ st 1 g ≤ 4) ∧ ∀ f : Int, 0 ≤ f → f < 6 → st 3 f = 0 ∨ st 3 f = 1
/-- file g of u is file h of st -/
def mf (u : PS) (g : Int) (st : PS) (h : Int) : Prop := u 0 g = st 0 h ∧ u 1 g = st 1 h ∧ ∀ j : Int, 0 ≤ j → j < 4 → u 2 (4 * g + j) = st 2 (4 * h + j)
theorem mf.rf {u : PS} {g : Int} : mf u g u g := ⟨rfl, rfl, fun _ _ _ => rfl⟩
theorem mf.tr {u v w : PS} {g h k : Int} (a : mf u g v h) (b : mf v h w k) : mf u g w k := ⟨a.1.trans b.1, a.2.1.trans b.2.1, fun j j0 j1 => (a.2.2 j j0 j1).trans (b.2.2 j j0 j1)⟩
theorem mf.of {u v : PS} {g : Int} (h0 : u 0 = v 0) (h1 : u 1 = v 1) (h2 : u 2 = v 2) : mf u g v g := ⟨by rw [h0], by rw [h1], fun j _ _ => by rw [h2]⟩
def tstP (st : PS) (f a : Int) : Prop := (¬ fOk f ∧ a = -1) ∨ (fOk f ∧ st 0 f = 0 ∧ a = -3) ∨ (fOk f ∧ st 0 f ≠ 0 ∧ a = 0)
def mCreate (st : PS) (f a : Int) (u : PS) : Prop := (¬ fOk f ∧ a = -1 ∧ u = st) ∨ (fOk f ∧ st 0 f ≠ 0 ∧ a = -3 ∧ u = st) ∨ (fOk f ∧ st 0 f = 0 ∧ a = 0 ∧ u = sw (sw (sw st 0 f 1) 1 f 0) 3 f 1)
def mRemove (st : PS) (f a : Int) (u : PS) : Prop := (¬ fOk f ∧ a = -1 ∧ u = st) ∨ (fOk f ∧ st 0 f = 0 ∧ a = -3 ∧ u = st) ∨ (fOk f ∧ st 0 f ≠ 0 ∧ a = st 1 f ∧ u = sw (sw st 0 f 0) 3 f 0)
def mWrite (st : PS) (f i w a : Int) (u : PS) : Prop := (¬ fOk f ∧ a = -1 ∧ u = st) ∨ (fOk f ∧ st 0 f = 0 ∧ a = -3 ∧ u = st) ∨ (fOk f ∧ st 0 f ≠ 0 ∧ (i < 0 ∨ st 1 f < i ∨ i = 4) ∧ a = -1 ∧ u = st) ∨ (fOk f ∧ st 0 f ≠ 0 ∧ ¬ (i < 0 ∨ st 1 f < i ∨ i = 4) ∧ (a = if i = st 1 f then i + 1 else st 1 f) ∧ u = sw (sw st 2 (4 * f + i) w) 1 f a)
def mTruncate (st : PS) (f m a : Int) (u : PS) : Prop := (¬ fOk f ∧ a = -1 ∧ u = st) ∨ (fOk f ∧ st 0 f = 0 ∧ a = -3 ∧ u = st) ∨ (fOk f ∧ st 0 f ≠ 0 ∧ (m < 0 ∨ st 1 f < m) ∧ a = -1 ∧ u = st) ∨ (fOk f ∧ st 0 f ≠ 0 ∧ ¬ (m < 0 ∨ st 1 f < m) ∧ a = st 1 f ∧ u = sw st 1 f m)
/-- copyContent(p, q) -/
def ccP (st : PS) (p q : Int) (u : PS) : Prop := fr [1, 2] st u ∧ (u 1 = fun g => if g = q then st 1 p else st 1 g) ∧ (∀ j : Int, 0 ≤ j → j < 4 → u 2 (4 * q + j) = st 2 (4 * p + j)) ∧ ∀ a : Int, a < 4 * q ∨ 4 * q + 4 ≤ a → u 2 a = st 2 a
def ccI (st : PS) (p q k : Int) (u : PS) : Prop := fr [2] (sw st 1 q (st 1 p)) u ∧ (∀ j : Int, 0 ≤ j → j < k → u 2 (4 * q + j) = st 2 (4 * p + j)) ∧ ∀ a : Int, a < 4 * q ∨ 4 * q + k ≤ a → u 2 a = st 2 a
theorem ccI_0 (st : PS) (p q : Int) : ccI st p q 0 (sw st 1 q (st 1 p)) := ⟨fr.rf, fun j h1 h2 => by omega, fun a _ => by rw [sw_ne (by decide)]⟩
theorem ccI_s {st u : PS} {p q k : Int} (h : ccI st p q k u) (k0 : 0 ≤ k) : ccI st p q (k + 1) (sw u 2 (4 * q + k) (st 2 (4 * p + k))) := by
  obtain ⟨h1, h2, h3⟩ := h
  refine ⟨h1.sw (by decide), fun j j0 j1 => ?_, fun a ha => ?_⟩
  · by_cases hj : j = k
    · subst hj; rw [sw_eq]
    · rw [sw_na (by omega)]; exact h2 j j0 (by omega)
  · rw [sw_na (by omega)]; exact h3 a (by omega)
theorem ccI_e {st u : PS} {p q : Int} (h : ccI st p q 4 u) : ccP st p q u := by
  obtain ⟨h1, h2, h3⟩ := h
  refine ⟨fun k hk => ?_, ?_, h2, h3⟩
  · simp only [List.mem_cons, List.not_mem_nil, or_false, not_or] at hk
    rw [h1 k (by simp [hk]), sw_ne hk.1]
  · rw [h1 1 (by decide), sw_fun]
theorem ccP.ne {st u : PS} {p q g : Int} (h : ccP st p q u) (hg : g ≠ q) : mf u g st g := by
  obtain ⟨h1, h2, h3, h4⟩ := h
  exact ⟨by rw [h1 0 (by decide)], by rw [h2]; exact if_neg hg, fun j j0 j1 => h4 _ (by omega)⟩
theorem ccP.eq {st u : PS} {p q : Int} (h : ccP st p q u) (e : st 0 q = st 0 p) : mf u q st p := by
  obtain ⟨h1, h2, h3, h4⟩ := h
  exact ⟨by rw [h1 0 (by decide)]; exact e, by rw [h2]; exact if_pos rfl, h3⟩
def mCopy (st : PS) (f g a : Int) (u : PS) : Prop := (¬ (fOk f ∧ fOk g) ∧ a = -1 ∧ u = st) ∨ ((fOk f ∧ fOk g) ∧ (st 0 f = 0 ∨ st 0 g = 0) ∧ a = -3 ∧ u = st) ∨ ((fOk f ∧ fOk g) ∧ ¬ (st 0 f = 0 ∨ st 0 g = 0) ∧ a = st 1 g ∧ ccP st g f u)
def cntM (st : PS) : Int := csum (fun f => if st 0 f = 0 then 0 else 1) 6
def mcnP (st u : PS) : Prop := fr [3] st u ∧ ∀ f : Int, 0 ≤ f → f < 6 → u 3 f = 0
/-- sync, without its answer -/
def msP (st u : PS) : Prop := ∀ f : Int, 0 ≤ f → f < 6 → mf u f st f ∧ mf u (6 + f) st f ∧ u 3 f = 0
def msI (st : PS) (f : Int) (u : PS) : Prop := (∀ g : Int, 0 ≤ g → g < 6 → mf u g st g) ∧ ∀ g : Int, 0 ≤ g → g < f → mf u (6 + g) st g
theorem msI_s {st u w : PS} {f : Int} (h : msI st f u) (f0 : 0 ≤ f) (f1 : f < 6) (hw : ccP (sw u 0 (6 + f) (st 0 f)) f (6 + f) w) : msI st (f + 1) w := by
  obtain ⟨h1, h2⟩ := h
  have hs : ∀ g : Int, g ≠ 6 + f → mf (sw u 0 (6 + f) (st 0 f)) g u g := fun g hg => ⟨by rw [sw_na hg], by rw [sw_ne (by decide)], fun j _ _ => by rw [sw_ne (by decide)]⟩
  refine ⟨fun g g0 g1 => ?_, fun g g0 g1 => ?_⟩
  · exact (hw.ne (by omega)).tr ((hs g (by omega)).tr (h1 g g0 g1))
  · by_cases hg : g = f
    · subst hg
      have e := hw.eq (by rw [sw_eq, sw_na (by omega)]; exact (h1 g g0 f1).1.symm)
      exact e.tr ((hs g (by omega)).tr (h1 g g0 f1))
    · exact (hw.ne (by omega)).tr ((hs _ (by omega)).tr (h2 g g0 (by omega)))
theorem ms_fin {st u w : PS} (h : msI st 6 u) (hw : mcnP u w) : msP st w := fun f f0 f1 => by
  have e : ∀ g : Int, mf w g u g := fun g => mf.of (hw.1 0 (by decide)) (hw.1 1 (by decide)) (hw.1 2 (by decide))
  exact ⟨(e f).tr (h.1 f f0 f1), (e _).tr (h.2 f f0 f1), hw.2 f f0 f1⟩
/-- crash, without its answer -/
def mcP (st u : PS) : Prop := ∀ f : Int, 0 ≤ f → f < 6 → mf u f st (6 + f) ∧ mf u (6 + f) st (6 + f) ∧ u 3 f = 0
def mcI (st : PS) (f : Int) (u : PS) : Prop := (∀ g : Int, 0 ≤ g → g < 6 → mf u (6 + g) st (6 + g)) ∧ ∀ g : Int, 0 ≤ g → g < f → mf u g st (6 + g)
theorem mcI_s {st u w : PS} {f : Int} (h : mcI st f u) (f0 : 0 ≤ f) (f1 : f < 6) (hw : ccP (sw u 0 f (st 0 (6 + f))) (6 + f) f w) : mcI st (f + 1) w := by
  obtain ⟨h1, h2⟩ := h
  have hs : ∀ g : Int, g ≠ f → mf (sw u 0 f (st 0 (6 + f))) g u g := fun g hg => ⟨by rw [sw_na hg], by rw [sw_ne (by decide)], fun j _ _ => by rw [sw_ne (by decide)]⟩
  refine ⟨fun g g0 g1 => ?_, fun g g0 g1 => ?_⟩
  · exact (hw.ne (by omega)).tr ((hs _ (by omega)).tr (h1 g g0 g1))
  · by_cases hg : g = f
    · subst hg
      have e := hw.eq (by rw [sw_eq, sw_na (by omega)]; exact (h1 g g0 f1).1.symm)
      exact e.tr ((hs _ (by omega)).tr (h1 g g0 f1))
    · exact (hw.ne (by omega)).tr ((hs _ (by omega)).tr (h2 g g0 (by omega)))
theorem mc_fin {st u w : PS} (h : mcI st 6 u) (hw : mcnP u w) : mcP st w := fun f f0 f1 => by
  have e : ∀ g : Int, mf w g u g := fun g => mf.of (hw.1 0 (by decide)) (hw.1 1 (by decide)) (hw.1 2 (by decide))
  exact ⟨(e f).tr (h.2 f f0 f1), (e _).tr (h.1 f f0 f1), hw.2 f f0 f1⟩
def mSync (st : PS) (a : Int) (u : PS) : Prop := msP st u ∧ a = cntM u
def mCrash (st : PS) (a : Int) (u : PS) : Prop := mcP st u ∧ a = cntM u
def mFsync (st : PS) (f a : Int) (u : PS) : Prop := (¬ fOk f ∧ a = -1 ∧ u = st) ∨ (fOk f ∧ st 0 f = 0 ∧ a = -3 ∧ u = st) ∨ (fOk f ∧ st 0 f ≠ 0 ∧ st 3 f ≠ 0 ∧ a = 1 ∧ msP st u) ∨ (fOk f ∧ st 0 f ≠ 0 ∧ st 3 f = 0 ∧ a = 0 ∧ ccP (sw st 0 (6 + f) 1) f (6 + f) u)
def mExists (st : PS) (f a : Int) (u : PS) : Prop := u = st ∧ (((fOk f ∧ st 0 f ≠ 0) ∧ a = 1) ∨ (¬ (fOk f ∧ st 0 f ≠ 0) ∧ a = 0))
def mSize (st : PS) (f a : Int) (u : PS) : Prop := u = st ∧ ((¬ fOk f ∧ a = -1) ∨ (fOk f ∧ st 0 f = 0 ∧ a = -3) ∨ (fOk f ∧ st 0 f ≠ 0 ∧ a = st 1 f))
def mRead (st : PS) (f i a : Int) (u : PS) : Prop := u = st ∧ (((fOk f ∧ st 0 f ≠ 0 ∧ 0 ≤ i ∧ i < st 1 f) ∧ a = st 2 (4 * f + i)) ∨ (¬ (fOk f ∧ st 0 f ≠ 0 ∧ 0 ≤ i ∧ i < st 1 f) ∧ a = 0))
def difM (st : PS) (f : Int) : Prop := st 0 f ≠ st 0 (6 + f) ∨ (st 0 f = st 0 (6 + f) ∧ st 0 f ≠ 0 ∧ ((∃ i : Int, 0 ≤ i ∧ i < st 1 f ∧ ¬ Int32.ofInt (st 2 (4 * f + i)) = Int32.ofInt (st 2 (24 + 4 * f + i))) ∨ st 1 f ≠ st 1 (6 + f)))
def mUns (st : PS) (a : Int) (u : PS) : Prop := u = st ∧ a = csum (fun f => d01 (difM st f)) 6
def rdM (st : PS) (f i : Int) : Int := if st 0 f ≠ 0 ∧ i < st 1 f then st 2 (4 * f + i) else 0
def dgJ (st : PS) (f i : Int) : Int := (8 * f + i + 1) * rdM st f i
def dgM (st : PS) (f : Int) : Int := (if st 0 f = 0 then 0 else 1000 * (f + 1) * (st 1 f + 1)) + csum (dgJ st f) 4
def mDigest (st : PS) (a : Int) (u : PS) : Prop := u = st ∧ a = csum (dgM st) 6
end
section
set_option maxRecDepth 100000
set_option maxHeartbeats 4000000 in
/-- isFile(f) -/
theorem mm_isFile (l : Launch) (D : va_G) (cI cB : ClassId) (h1 : Nat) (bd : Nat → Nat) (st : PS) (f : Int) (hf : -2147483648 ≤ f ∧ f ≤ 2147483647) : MI l D cI cB (mw h1 bd cI cB) yX1_isFile cX1_isFile 2 (some .boolean) 0 0 [.ref h1, iv f] st (fun a u => u = st ∧ ((fOk f ∧ a = 1) ∨ (¬ fOk f ∧ a = 0))) := by
  refine MI_ofZ (by decide +kernel) (Nat.le_of_ble_eq_true rfl) (fun E hF hret => ?_)
  have hF : JF E l cX1_isFile RX1 2 (rmo 0 0) D cI cB := hF
  show J E 0 0 (mw h1 bd cI cB st) 0 [(0, .ref h1), (1, iv f)] []
  refine j_iload_n hF dX1_isFile_0 rfl 1 rfl ?_
  refine j_if_lt hF 13 dX1_isFile_1 (by decide) (by omega) (fun c1 => ?_) (fun c1 => ?_)
  · refine j_iconst hF dX1_isFile_13 ?_
    exact hret 0 st _ _ dX1_isFile_14 (Or.inl rfl) ⟨rfl, Or.inr ⟨fun h => by have := h.1; omega, rfl⟩⟩
  · refine j_iload_n hF dX1_isFile_4 rfl 1 rfl ?_
    refine j_iconst hF dX1_isFile_5 ?_
    refine j_icmp_gt hF 13 dX1_isFile_6 (by decide) (by omega) (by omega) (fun c2 => ?_) (fun c2 => ?_)
    · refine j_iconst hF dX1_isFile_13 ?_
      exact hret 0 st _ _ dX1_isFile_14 (Or.inl rfl) ⟨rfl, Or.inr ⟨fun h => by have := h.2; omega, rfl⟩⟩
    · refine j_iconst hF dX1_isFile_9 ?_
      refine j_goto hF 14 dX1_isFile_10 (by decide) ?_
      exact hret 1 st _ _ dX1_isFile_14 (Or.inr rfl) ⟨rfl, Or.inl ⟨⟨by omega, by omega⟩, rfl⟩⟩
set_option maxHeartbeats 4000000 in
/-- test(f) -/
theorem mm_test (l : Launch) (D : va_G) (cI cB : ClassId) (h1 : Nat) (bd : Nat → Nat) (st : PS) (f : Int) (hI : InvM st) (hf : -2147483648 ≤ f ∧ f ≤ 2147483647) : MI l D cI cB (mw h1 bd cI cB) yX1_test cX1_test 2 (some .int) 1 21 [.ref h1, iv f] st (fun a u => u = st ∧ tstP st f a) := by
  refine MI_of (by decide +kernel) (Nat.le_of_ble_eq_true rfl) (fun E hF hret => ?_)
  have hF : JF E l cX1_test RX1 2 (rmo 1 21) D cI cB := hF
  show J E 0 0 (mw h1 bd cI cB st) 0 [(0, .ref h1), (1, iv f)] []
  refine j_aload_n hF dX1_test_0 rfl 0 rfl ?_
  refine j_iload_n hF dX1_test_1 rfl 1 rfl ?_
  refine j_calli (As := [iv f]) (n := 1) hF (mm_isFile l D cI cB h1 bd st f hf) (lw_V q203 q205 qs11 q18 q206) (by decide +kernel) (by decide) ⟨Nat.le_of_ble_eq_true rfl, Nat.le_of_ble_eq_true rfl⟩ rfl 1 rfl rfl rfl [] rfl (by simp [Value.category]) dX1_test_2 (fun k u_k hb => ?_)
  obtain ⟨e_k, hb⟩ := hb
  rw [e_k]
  refine j_if_ne hF 10 dX1_test_5 (by decide) (by omega) (fun c0 => ?_) (fun c0 => ?_)
  · have hk : fOk f := by
      rcases hb with h | h
      · exact h.1
      · omega
    obtain ⟨f0, f1⟩ := hk
    have m1 := hI.1 f f0 (by omega)
    have m2 := hI.2 f f0 f1
    refine j_aload_n hF dX1_test_10 rfl 0 rfl ?_
    refine mg0 hF dX1_test_11 ?_
    refine j_iload_n hF dX1_test_14 rfl 1 rfl ?_
    refine ml0 hF dX1_test_15 (by omega) ?_
    refine j_if_eq hF 23 dX1_test_16 (by decide) (by omega) (fun c1 => ?_) (fun c1 => ?_)
    · refine j_bipush hF dX1_test_23 (by decide) ?_
      exact hret (-3) st _ _ dX1_test_25 ⟨rfl, Or.inr (Or.inl ⟨⟨f0, f1⟩, c1, rfl⟩)⟩
    · refine j_iconst hF dX1_test_19 ?_
      refine j_goto hF 25 dX1_test_20 (by decide) ?_
      exact hret 0 st _ _ dX1_test_25 ⟨rfl, Or.inr (Or.inr ⟨⟨f0, f1⟩, c1, rfl⟩)⟩
  · have hk : ¬ fOk f := by
      rcases hb with h | h
      · omega
      · exact h.1
    refine j_iconst hF dX1_test_8 ?_
    exact hret (-1) st _ _ dX1_test_9 ⟨rfl, Or.inl ⟨hk, rfl⟩⟩
set_option maxHeartbeats 4000000 in
/-- create(f) -/
theorem mm_create (l : Launch) (D : va_G) (cI cB : ClassId) (h1 : Nat) (bd : Nat → Nat) (st : PS) (f : Int) (hI : InvM st) (hf : -2147483648 ≤ f ∧ f ≤ 2147483647) : MI l D cI cB (mw h1 bd cI cB) yX1_create cX1_create 2 (some .int) 1 21 [.ref h1, iv f] st (mCreate st f) := by
  refine MI_of (by decide +kernel) (Nat.le_of_ble_eq_true rfl) (fun E hF hret => ?_)
  have hF : JF E l cX1_create RX1 2 (rmo 1 21) D cI cB := hF
  show J E 0 0 (mw h1 bd cI cB st) 0 [(0, .ref h1), (1, iv f)] []
  refine j_aload_n hF dX1_create_0 rfl 0 rfl ?_
  refine j_iload_n hF dX1_create_1 rfl 1 rfl ?_
  refine j_calli (As := [iv f]) (n := 1) hF (mm_isFile l D cI cB h1 bd st f hf) (lw_V q203 q205 qs11 q18 q206) (by decide +kernel) (by decide) ⟨Nat.le_of_ble_eq_true rfl, Nat.le_of_ble_eq_true rfl⟩ rfl 1 rfl rfl rfl [] rfl (by simp [Value.category]) dX1_create_2 (fun k u_k hb => ?_)
  obtain ⟨e_k, hb⟩ := hb
  rw [e_k]
  refine j_if_ne hF 10 dX1_create_5 (by decide) (by omega) (fun c0 => ?_) (fun c0 => ?_)
  · have hk : fOk f := by
      rcases hb with h | h
      · exact h.1
      · omega
    obtain ⟨f0, f1⟩ := hk
    have m1 := hI.1 f f0 (by omega)
    have m2 := hI.2 f f0 f1
    refine j_aload_n hF dX1_create_10 rfl 0 rfl ?_
    refine mg0 hF dX1_create_11 ?_
    refine j_iload_n hF dX1_create_14 rfl 1 rfl ?_
    refine ml0 hF dX1_create_15 (by omega) ?_
    refine j_if_eq hF 22 dX1_create_16 (by decide) (by omega) (fun c1 => ?_) (fun c1 => ?_)
    · refine j_aload_n hF dX1_create_22 rfl 0 rfl ?_
      refine mg0 hF dX1_create_23 ?_
      refine j_iload_n hF dX1_create_26 rfl 1 rfl ?_
      refine j_iconst hF dX1_create_27 ?_
      refine ms0 hF dX1_create_28 (by omega) (Or.inr rfl) ?_
      refine j_aload_n hF dX1_create_29 rfl 0 rfl ?_
      refine mg1 hF dX1_create_30 ?_
      refine j_iload_n hF dX1_create_33 rfl 1 rfl ?_
      refine j_iconst hF dX1_create_34 ?_
      refine ms1 hF dX1_create_35 (by omega) ?_
      refine j_aload_n hF dX1_create_36 rfl 0 rfl ?_
      refine mg3 hF dX1_create_37 ?_
      refine j_iload_n hF dX1_create_40 rfl 1 rfl ?_
      refine j_iconst hF dX1_create_41 ?_
      refine ms3 hF dX1_create_42 (by omega) (Or.inr rfl) ?_
      refine j_iconst hF dX1_create_43 ?_
      exact hret 0 _ _ _ dX1_create_44 (Or.inr (Or.inr ⟨⟨f0, f1⟩, c1, rfl, rfl⟩))
    · refine j_bipush hF dX1_create_19 (by decide) ?_
      exact hret (-3) st _ _ dX1_create_21 (Or.inr (Or.inl ⟨⟨f0, f1⟩, c1, rfl, rfl⟩))
  · have hk : ¬ fOk f := by
      rcases hb with h | h
      · omega
      · exact h.1
    refine j_iconst hF dX1_create_8 ?_
    exact hret (-1) st _ _ dX1_create_9 (Or.inl ⟨hk, rfl, rfl⟩)
set_option maxHeartbeats 4000000 in
/-- remove(f) -/
theorem mm_remove (l : Launch) (D : va_G) (cI cB : ClassId) (h1 : Nat) (bd : Nat → Nat) (st : PS) (f : Int) (hI : InvM st) (hf : -2147483648 ≤ f ∧ f ≤ 2147483647) : MI l D cI cB (mw h1 bd cI cB) yX1_remove cX1_remove 3 (some .int) 2 42 [.ref h1, iv f] st (mRemove st f) := by
  refine MI_of (by decide +kernel) (Nat.le_of_ble_eq_true rfl) (fun E hF hret => ?_)
  have hF : JF E l cX1_remove RX1 3 (rmo 2 42) D cI cB := hF
  show J E 0 0 (mw h1 bd cI cB st) 0 [(0, .ref h1), (1, iv f)] []
  refine j_aload_n hF dX1_remove_0 rfl 0 rfl ?_
  refine j_iload_n hF dX1_remove_1 rfl 1 rfl ?_
  refine j_calli (As := [iv f]) (n := 1) hF (mm_test l D cI cB h1 bd st f hI hf) (lw_V q211 q213 qs12 q18 q214) (by decide +kernel) (by decide) ⟨Nat.le_of_ble_eq_true rfl, Nat.le_of_ble_eq_true rfl⟩ rfl 1 rfl rfl rfl [] rfl (by simp [Value.category]) dX1_remove_2 (fun k u_k hb => ?_)
  obtain ⟨e_k, hb⟩ := hb
  rw [e_k]
  have hkr : k = -1 ∨ k = -3 ∨ k = 0 := by
    rcases hb with h | h | h <;> omega
  refine j_istore_n hF [(0, .ref h1), (1, iv f), (2, iv k)] dX1_remove_5 rfl (by decide) [1, 2, 0] rfl ?_
  refine j_iload_n hF dX1_remove_6 rfl 2 rfl ?_
  refine j_if_ge hF 12 dX1_remove_7 (by decide) (by omega) (fun c0 => ?_) (fun c0 => ?_)
  · have hk : fOk f ∧ st 0 f ≠ 0 := by
      rcases hb with h | h | h
      · omega
      · omega
      · exact ⟨h.1, h.2.1⟩
    obtain ⟨⟨f0, f1⟩, ho⟩ := hk
    have m1 := hI.1 f f0 (by omega)
    have m2 := hI.2 f f0 f1
    refine j_aload_n hF dX1_remove_12 rfl 0 rfl ?_
    refine mg0 hF dX1_remove_13 ?_
    refine j_iload_n hF dX1_remove_16 rfl 1 rfl ?_
    refine j_iconst hF dX1_remove_17 ?_
    refine ms0 hF dX1_remove_18 (by omega) (Or.inl rfl) ?_
    refine j_aload_n hF dX1_remove_19 rfl 0 rfl ?_
    refine mg3 hF dX1_remove_20 ?_
    refine j_iload_n hF dX1_remove_23 rfl 1 rfl ?_
    refine j_iconst hF dX1_remove_24 ?_
    refine ms3 hF dX1_remove_25 (by omega) (Or.inl rfl) ?_
    refine j_aload_n hF dX1_remove_26 rfl 0 rfl ?_
    refine mg1 hF dX1_remove_27 ?_
    refine j_iload_n hF dX1_remove_30 rfl 1 rfl ?_
    refine ml1 hF dX1_remove_31 (by omega) ?_
    refine j_top (b := st 1 f) (by rw [sw_ne (by decide), sw_ne (by decide)]) ?_
    exact hret _ _ _ _ dX1_remove_32 (Or.inr (Or.inr ⟨⟨f0, f1⟩, ho, rfl, rfl⟩))
  · refine j_iload_n hF dX1_remove_10 rfl 2 rfl ?_
    refine hret k st _ _ dX1_remove_11 ?_
    rcases hb with h | h | h
    · exact Or.inl ⟨h.1, h.2, rfl⟩
    · exact Or.inr (Or.inl ⟨h.1, h.2.1, h.2.2, rfl⟩)
    · omega
set_option maxHeartbeats 4000000 in
/-- write(f, i, w) -/
theorem mm_write (l : Launch) (D : va_G) (cI cB : ClassId) (h1 : Nat) (bd : Nat → Nat) (st : PS) (f i w : Int) (hI : InvM st) (hf : -2147483648 ≤ f ∧ f ≤ 2147483647) (hi : -2147483648 ≤ i ∧ i ≤ 2147483647) : MI l D cI cB (mw h1 bd cI cB) yX1_write cX1_write 5 (some .int) 2 42 [.ref h1, iv f, iv i, iv w] st (mWrite st f i w) := by
  refine MI_of (by decide +kernel) (Nat.le_of_ble_eq_true rfl) (fun E hF hret => ?_)
  have hF : JF E l cX1_write RX1 5 (rmo 2 42) D cI cB := hF
  show J E 0 0 (mw h1 bd cI cB st) 0 [(0, .ref h1), (1, iv f), (2, iv i), (3, iv w)] []
  refine j_aload_n hF dX1_write_0 rfl 0 rfl ?_
  refine j_iload_n hF dX1_write_1 rfl 1 rfl ?_
  refine j_calli (As := [iv f]) (n := 1) hF (mm_test l D cI cB h1 bd st f hI hf) (lw_V q211 q213 qs12 q18 q214) (by decide +kernel) (by decide) ⟨Nat.le_of_ble_eq_true rfl, Nat.le_of_ble_eq_true rfl⟩ rfl 1 rfl rfl rfl [] rfl (by simp [Value.category]) dX1_write_2 (fun k u_k hb => ?_)
  obtain ⟨e_k, hb⟩ := hb
  rw [e_k]
  have hkr : k = -1 ∨ k = -3 ∨ k = 0 := by
    rcases hb with h | h | h <;> omega
  refine j_istore hF [(0, .ref h1), (1, iv f), (2, iv i), (3, iv w), (4, iv k)] dX1_write_5 (by decide) [1, 2, 3, 4, 0] rfl ?_
  refine j_iload hF dX1_write_7 4 rfl ?_
  refine j_if_ge hF 15 dX1_write_9 (by decide) (by omega) (fun c0 => ?_) (fun c0 => ?_)
  · have hk : fOk f ∧ st 0 f ≠ 0 := by
      rcases hb with h | h | h
      · omega
      · omega
      · exact ⟨h.1, h.2.1⟩
    obtain ⟨⟨f0, f1⟩, ho⟩ := hk
    have m1 := hI.1 f f0 (by omega)
    have m2 := hI.2 f f0 f1
    refine j_iload_n hF dX1_write_15 rfl 2 rfl ?_
    refine j_if_lt hF 34 dX1_write_16 (by decide) (by omega) (fun c1 => ?_) (fun c1 => ?_)
    · refine j_iconst hF dX1_write_34 ?_
      exact hret (-1) st _ _ dX1_write_35 (Or.inr (Or.inr (Or.inl ⟨⟨f0, f1⟩, ho, by omega, rfl, rfl⟩)))
    · refine j_iload_n hF dX1_write_19 rfl 2 rfl ?_
      refine j_aload_n hF dX1_write_20 rfl 0 rfl ?_
      refine mg1 hF dX1_write_21 ?_
      refine j_iload_n hF dX1_write_24 rfl 1 rfl ?_
      refine ml1 hF dX1_write_25 (by omega) ?_
      refine j_icmp_gt hF 34 dX1_write_26 (by decide) (by omega) (by omega) (fun c2 => ?_) (fun c2 => ?_)
      · refine j_iconst hF dX1_write_34 ?_
        exact hret (-1) st _ _ dX1_write_35 (Or.inr (Or.inr (Or.inl ⟨⟨f0, f1⟩, ho, by omega, rfl, rfl⟩)))
      · refine j_iload_n hF dX1_write_29 rfl 2 rfl ?_
        refine j_iconst hF dX1_write_30 ?_
        refine j_icmp_ne hF 36 dX1_write_31 (by decide) (by omega) (by omega) (fun c3 => ?_) (fun c3 => ?_)
        · refine j_aload_n hF dX1_write_36 rfl 0 rfl ?_
          refine mg2 hF dX1_write_37 ?_
          refine j_iconst hF dX1_write_40 ?_
          refine j_iload_n hF dX1_write_41 rfl 1 rfl ?_
          refine j_imul hF dX1_write_42 ?_
          refine j_iload_n hF dX1_write_43 rfl 2 rfl ?_
          refine j_iadd hF dX1_write_44 ?_
          refine j_iload_n hF dX1_write_45 rfl 3 rfl ?_
          refine ms2 hF dX1_write_46 (by omega) ?_
          refine j_aload_n hF dX1_write_47 rfl 0 rfl ?_
          refine mg1 hF dX1_write_48 ?_
          refine j_iload_n hF dX1_write_51 rfl 1 rfl ?_
          refine j_iload_n hF dX1_write_52 rfl 2 rfl ?_
          refine j_aload_n hF dX1_write_53 rfl 0 rfl ?_
          refine mg1 hF dX1_write_54 ?_
          refine j_iload_n hF dX1_write_57 rfl 1 rfl ?_
          refine ml1 hF dX1_write_58 (by omega) ?_
          refine j_top (b := st 1 f) (by rw [sw_ne (by decide)]) ?_
          refine j_icmp_ne hF 68 dX1_write_59 (by decide) (by omega) (by omega) (fun c4 => ?_) (fun c4 => ?_)
          · refine j_aload_n hF dX1_write_68 rfl 0 rfl ?_
            refine mg1 hF dX1_write_69 ?_
            refine j_iload_n hF dX1_write_72 rfl 1 rfl ?_
            refine ml1 hF dX1_write_73 (by omega) ?_
            refine j_top (b := st 1 f) (by rw [sw_ne (by decide)]) ?_
            refine ms1 hF dX1_write_74 (by omega) ?_
            refine j_aload_n hF dX1_write_75 rfl 0 rfl ?_
            refine mg1 hF dX1_write_76 ?_
            refine j_iload_n hF dX1_write_79 rfl 1 rfl ?_
            refine ml1 hF dX1_write_80 (by omega) ?_
            refine j_top (b := st 1 f) (by rw [sw_eq]) ?_
            exact hret _ _ _ _ dX1_write_81 (Or.inr (Or.inr (Or.inr ⟨⟨f0, f1⟩, ho, by omega, by rw [if_neg c4], rfl⟩)))
          · refine j_iload_n hF dX1_write_62 rfl 2 rfl ?_
            refine j_iconst hF dX1_write_63 ?_
            refine j_iadd hF dX1_write_64 ?_
            refine j_goto hF 74 dX1_write_65 (by decide) ?_
            refine ms1 hF dX1_write_74 (by omega) ?_
            refine j_aload_n hF dX1_write_75 rfl 0 rfl ?_
            refine mg1 hF dX1_write_76 ?_
            refine j_iload_n hF dX1_write_79 rfl 1 rfl ?_
            refine ml1 hF dX1_write_80 (by omega) ?_
            refine j_top (b := (i + 1)) (by rw [sw_eq]) ?_
            exact hret _ _ _ _ dX1_write_81 (Or.inr (Or.inr (Or.inr ⟨⟨f0, f1⟩, ho, by omega, by rw [if_pos c4], rfl⟩)))
        · refine j_iconst hF dX1_write_34 ?_
          exact hret (-1) st _ _ dX1_write_35 (Or.inr (Or.inr (Or.inl ⟨⟨f0, f1⟩, ho, by omega, rfl, rfl⟩)))
  · refine j_iload hF dX1_write_12 4 rfl ?_
    refine hret k st _ _ dX1_write_14 ?_
    rcases hb with h | h | h
    · exact Or.inl ⟨h.1, h.2, rfl⟩
    · exact Or.inr (Or.inl ⟨h.1, h.2.1, h.2.2, rfl⟩)
    · omega
set_option maxHeartbeats 4000000 in
/-- truncate(f, m) -/
theorem mm_truncate (l : Launch) (D : va_G) (cI cB : ClassId) (h1 : Nat) (bd : Nat → Nat) (st : PS) (f m : Int) (hI : InvM st) (hf : -2147483648 ≤ f ∧ f ≤ 2147483647) (hm : -2147483648 ≤ m ∧ m ≤ 2147483647) : MI l D cI cB (mw h1 bd cI cB) yX1_truncate cX1_truncate 5 (some .int) 2 42 [.ref h1, iv f, iv m] st (mTruncate st f m) := by
  refine MI_of (by decide +kernel) (Nat.le_of_ble_eq_true rfl) (fun E hF hret => ?_)
  have hF : JF E l cX1_truncate RX1 5 (rmo 2 42) D cI cB := hF
  show J E 0 0 (mw h1 bd cI cB st) 0 [(0, .ref h1), (1, iv f), (2, iv m)] []
  refine j_aload_n hF dX1_truncate_0 rfl 0 rfl ?_
  refine j_iload_n hF dX1_truncate_1 rfl 1 rfl ?_
  refine j_calli (As := [iv f]) (n := 1) hF (mm_test l D cI cB h1 bd st f hI hf) (lw_V q211 q213 qs12 q18 q214) (by decide +kernel) (by decide) ⟨Nat.le_of_ble_eq_true rfl, Nat.le_of_ble_eq_true rfl⟩ rfl 1 rfl rfl rfl [] rfl (by simp [Value.category]) dX1_truncate_2 (fun k u_k hb => ?_)
  obtain ⟨e_k, hb⟩ := hb
  rw [e_k]
  have hkr : k = -1 ∨ k = -3 ∨ k = 0 := by
    rcases hb with h | h | h <;> omega
  refine j_istore_n hF [(0, .ref h1), (1, iv f), (2, iv m), (3, iv k)] dX1_truncate_5 rfl (by decide) [1, 2, 3, 0] rfl ?_
  refine j_iload_n hF dX1_truncate_6 rfl 3 rfl ?_
  refine j_if_ge hF 12 dX1_truncate_7 (by decide) (by omega) (fun c0 => ?_) (fun c0 => ?_)
  · have hk : fOk f ∧ st 0 f ≠ 0 := by
      rcases hb with h | h | h
      · omega
      · omega
      · exact ⟨h.1, h.2.1⟩
    obtain ⟨⟨f0, f1⟩, ho⟩ := hk
    have m1 := hI.1 f f0 (by omega)
    have m2 := hI.2 f f0 f1
    refine j_iload_n hF dX1_truncate_12 rfl 2 rfl ?_
    refine j_if_lt hF 26 dX1_truncate_13 (by decide) (by omega) (fun c1 => ?_) (fun c1 => ?_)
    · refine j_iconst hF dX1_truncate_26 ?_
      exact hret (-1) st _ _ dX1_truncate_27 (Or.inr (Or.inr (Or.inl ⟨⟨f0, f1⟩, ho, by omega, rfl, rfl⟩)))
    · refine j_iload_n hF dX1_truncate_16 rfl 2 rfl ?_
      refine j_aload_n hF dX1_truncate_17 rfl 0 rfl ?_
      refine mg1 hF dX1_truncate_18 ?_
      refine j_iload_n hF dX1_truncate_21 rfl 1 rfl ?_
      refine ml1 hF dX1_truncate_22 (by omega) ?_
      refine j_icmp_le hF 28 dX1_truncate_23 (by decide) (by omega) (by omega) (fun c2 => ?_) (fun c2 => ?_)
      · refine j_aload_n hF dX1_truncate_28 rfl 0 rfl ?_
        refine mg1 hF dX1_truncate_29 ?_
        refine j_iload_n hF dX1_truncate_32 rfl 1 rfl ?_
        refine ml1 hF dX1_truncate_33 (by omega) ?_
        refine j_istore hF [(0, .ref h1), (1, iv f), (2, iv m), (3, iv k), (4, iv (st 1 f))] dX1_truncate_34 (by decide) [1, 2, 3, 4, 0] rfl ?_
        refine j_aload_n hF dX1_truncate_36 rfl 0 rfl ?_
        refine mg1 hF dX1_truncate_37 ?_
        refine j_iload_n hF dX1_truncate_40 rfl 1 rfl ?_
        refine j_iload_n hF dX1_truncate_41 rfl 2 rfl ?_
        refine ms1 hF dX1_truncate_42 (by omega) ?_
        refine j_iload hF dX1_truncate_43 4 rfl ?_
        exact hret _ _ _ _ dX1_truncate_45 (Or.inr (Or.inr (Or.inr ⟨⟨f0, f1⟩, ho, by omega, rfl, rfl⟩)))
      · refine j_iconst hF dX1_truncate_26 ?_
        exact hret (-1) st _ _ dX1_truncate_27 (Or.inr (Or.inr (Or.inl ⟨⟨f0, f1⟩, ho, by omega, rfl, rfl⟩)))
  · refine j_iload_n hF dX1_truncate_10 rfl 3 rfl ?_
    refine hret k st _ _ dX1_truncate_11 ?_
    rcases hb with h | h | h
    · exact Or.inl ⟨h.1, h.2, rfl⟩
    · exact Or.inr (Or.inl ⟨h.1, h.2.1, h.2.2, rfl⟩)
    · omega
set_option maxHeartbeats 4000000 in
/-- copyContent(p, q) -/
theorem mm_copyContent (l : Launch) (D : va_G) (cI cB : ClassId) (h1 : Nat) (bd : Nat → Nat) (st : PS) (p q : Int) (hp : 0 ≤ p ∧ p < 12) (hq : 0 ≤ q ∧ q < 12) : MV l D cI cB (mw h1 bd cI cB) yX1_copyContent cX1_copyContent 4 0 0 [.ref h1, iv p, iv q] st (ccP st p q) := by
  refine MV_of (by decide +kernel) (Nat.le_of_ble_eq_true rfl) (fun E hF hret => ?_)
  have hF : JF E l cX1_copyContent RX1 4 (rmo 0 0) D cI cB := hF
  show J E 0 0 (mw h1 bd cI cB st) 0 [(0, .ref h1), (1, iv p), (2, iv q)] []
  have loop : ∀ (n : Nat) (k : Int) (u : PS), 4 - k < (n : Int) → 0 ≤ k → k ≤ 4 → ccI st p q k u → J E 0 0 (mw h1 bd cI cB u) 14 [(0, .ref h1), (1, iv p), (2, iv q), (3, iv k)] [] := by
    intro n
    induction n with
    | zero => intro k u hm k0 k1 hu; omega
    | succ n ih =>
      intro k u hm k0 k1 hu
      refine j_iload_n hF dX1_copyContent_14 rfl 3 rfl ?_
      refine j_iconst hF dX1_copyContent_15 ?_
      refine j_icmp_ge hF 45 dX1_copyContent_16 (by decide) (by omega) (by omega) (fun c1 => ?_) (fun c1 => ?_)
      · have e : k = 4 := by omega
        subst e
        exact hret u _ _ dX1_copyContent_45 (ccI_e hu)
      · refine j_aload_n hF dX1_copyContent_19 rfl 0 rfl ?_
        refine mg2 hF dX1_copyContent_20 ?_
        refine j_iconst hF dX1_copyContent_23 ?_
        refine j_iload_n hF dX1_copyContent_24 rfl 2 rfl ?_
        refine j_imul hF dX1_copyContent_25 ?_
        refine j_iload_n hF dX1_copyContent_26 rfl 3 rfl ?_
        refine j_iadd hF dX1_copyContent_27 ?_
        refine j_aload_n hF dX1_copyContent_28 rfl 0 rfl ?_
        refine mg2 hF dX1_copyContent_29 ?_
        refine j_iconst hF dX1_copyContent_32 ?_
        refine j_iload_n hF dX1_copyContent_33 rfl 1 rfl ?_
        refine j_imul hF dX1_copyContent_34 ?_
        refine j_iload_n hF dX1_copyContent_35 rfl 3 rfl ?_
        refine j_iadd hF dX1_copyContent_36 ?_
        refine ml2 hF dX1_copyContent_37 (by omega) ?_
        refine j_top (b := st 2 (4 * p + k)) (hu.2.2 _ (by omega)) ?_
        refine ms2 hF dX1_copyContent_38 (by omega) ?_
        refine j_iinc hF [(0, .ref h1), (1, iv p), (2, iv q), (3, iv (k + 1))] dX1_copyContent_39 3 rfl (by decide) [1, 2, 3, 0] rfl ?_
        refine j_goto hF 14 dX1_copyContent_42 (by decide) ?_
        exact ih (k + 1) _ (by omega) (by omega) (by omega) (ccI_s hu k0)
  refine j_aload_n hF dX1_copyContent_0 rfl 0 rfl ?_
  refine mg1 hF dX1_copyContent_1 ?_
  refine j_iload_n hF dX1_copyContent_4 rfl 2 rfl ?_
  refine j_aload_n hF dX1_copyContent_5 rfl 0 rfl ?_
  refine mg1 hF dX1_copyContent_6 ?_
  refine j_iload_n hF dX1_copyContent_9 rfl 1 rfl ?_
  refine ml1 hF dX1_copyContent_10 (by omega) ?_
  refine ms1 hF dX1_copyContent_11 (by omega) ?_
  refine j_iconst hF dX1_copyContent_12 ?_
  refine j_istore_n hF [(0, .ref h1), (1, iv p), (2, iv q), (3, iv 0)] dX1_copyContent_13 rfl (by decide) [1, 2, 3, 0] rfl ?_
  exact loop 5 0 _ (by omega) (by omega) (by omega) (ccI_0 st p q)
set_option maxHeartbeats 4000000 in
/-- copy(f, g) -/
theorem mm_copy (l : Launch) (D : va_G) (cI cB : ClassId) (h1 : Nat) (bd : Nat → Nat) (st : PS) (f g : Int) (hI : InvM st) (hf : -2147483648 ≤ f ∧ f ≤ 2147483647) (hg : -2147483648 ≤ g ∧ g ≤ 2147483647) : MI l D cI cB (mw h1 bd cI cB) yX1_copy cX1_copy 3 (some .int) 1 23 [.ref h1, iv f, iv g] st (mCopy st f g) := by
  refine MI_of (by decide +kernel) (Nat.le_of_ble_eq_true rfl) (fun E hF hret => ?_)
  have hF : JF E l cX1_copy RX1 3 (rmo 1 23) D cI cB := hF
  show J E 0 0 (mw h1 bd cI cB st) 0 [(0, .ref h1), (1, iv f), (2, iv g)] []
  refine j_aload_n hF dX1_copy_0 rfl 0 rfl ?_
  refine j_iload_n hF dX1_copy_1 rfl 1 rfl ?_
  refine j_calli (As := [iv f]) (n := 1) hF (mm_isFile l D cI cB h1 bd st f hf) (lw_V q203 q205 qs11 q18 q206) (by decide +kernel) (by decide) ⟨Nat.le_of_ble_eq_true rfl, Nat.le_of_ble_eq_true rfl⟩ rfl 1 rfl rfl rfl [] rfl (by simp [Value.category]) dX1_copy_2 (fun k u_k hb => ?_)
  obtain ⟨e_k, hb⟩ := hb
  rw [e_k]
  refine j_if_eq hF 16 dX1_copy_5 (by decide) (by omega) (fun c0 => ?_) (fun c0 => ?_)
  · have hk : ¬ fOk f := by
      rcases hb with h | h
      · omega
      · exact h.1
    refine j_iconst hF dX1_copy_16 ?_
    exact hret (-1) st _ _ dX1_copy_17 (Or.inl ⟨fun h => hk h.1, rfl, rfl⟩)
  · have hk : fOk f := by
      rcases hb with h | h
      · exact h.1
      · omega
    obtain ⟨f0, f1⟩ := hk
    have m1 := hI.1 f f0 (by omega)
    have m2 := hI.2 f f0 f1
    refine j_aload_n hF dX1_copy_8 rfl 0 rfl ?_
    refine j_iload_n hF dX1_copy_9 rfl 2 rfl ?_
    refine j_calli (As := [iv g]) (n := 1) hF (mm_isFile l D cI cB h1 bd st g hg) (lw_V q203 q205 qs11 q18 q206) (by decide +kernel) (by decide) ⟨Nat.le_of_ble_eq_true rfl, Nat.le_of_ble_eq_true rfl⟩ rfl 1 rfl rfl rfl [] rfl (by simp [Value.category]) dX1_copy_10 (fun k2 u_k2 hb2 => ?_)
    obtain ⟨e_k2, hb2⟩ := hb2
    rw [e_k2]
    refine j_if_ne hF 18 dX1_copy_13 (by decide) (by omega) (fun c02 => ?_) (fun c02 => ?_)
    · have hk2 : fOk g := by
        rcases hb2 with h | h
        · exact h.1
        · omega
      obtain ⟨g0, g1⟩ := hk2
      have m3 := hI.1 g g0 (by omega)
      refine j_aload_n hF dX1_copy_18 rfl 0 rfl ?_
      refine mg0 hF dX1_copy_19 ?_
      refine j_iload_n hF dX1_copy_22 rfl 1 rfl ?_
      refine ml0 hF dX1_copy_23 (by omega) ?_
      refine j_if_eq hF 36 dX1_copy_24 (by decide) (by omega) (fun c1 => ?_) (fun c1 => ?_)
      · refine j_bipush hF dX1_copy_36 (by decide) ?_
        exact hret (-3) st _ _ dX1_copy_38 (Or.inr (Or.inl ⟨⟨⟨f0, f1⟩, ⟨g0, g1⟩⟩, Or.inl c1, rfl, rfl⟩))
      · refine j_aload_n hF dX1_copy_27 rfl 0 rfl ?_
        refine mg0 hF dX1_copy_28 ?_
        refine j_iload_n hF dX1_copy_31 rfl 2 rfl ?_
        refine ml0 hF dX1_copy_32 (by omega) ?_
        refine j_if_ne hF 39 dX1_copy_33 (by decide) (by omega) (fun c2 => ?_) (fun c2 => ?_)
        · refine j_aload_n hF dX1_copy_39 rfl 0 rfl ?_
          refine j_iload_n hF dX1_copy_40 rfl 2 rfl ?_
          refine j_iload_n hF dX1_copy_41 rfl 1 rfl ?_
          refine j_callv (As := [iv g, iv f]) (n := 2) hF (mm_copyContent l D cI cB h1 bd st g f ⟨g0, by omega⟩ ⟨f0, by omega⟩) (lw_V q227 q229 qs13 q18 q230) (by decide +kernel) (by decide) ⟨Nat.le_of_ble_eq_true rfl, Nat.le_of_ble_eq_true rfl⟩ rfl 1 rfl rfl rfl [] rfl (by simp [Value.category]) dX1_copy_42 (fun u hu => ?_)
          refine j_aload_n hF dX1_copy_45 rfl 0 rfl ?_
          refine mg1 hF dX1_copy_46 ?_
          refine j_iload_n hF dX1_copy_49 rfl 1 rfl ?_
          refine ml1 hF dX1_copy_50 (by omega) ?_
          refine j_top (b := st 1 g) (by rw [hu.2.1]; exact if_pos rfl) ?_
          exact hret _ u _ _ dX1_copy_51 (Or.inr (Or.inr ⟨⟨⟨f0, f1⟩, ⟨g0, g1⟩⟩, fun h => by omega, rfl, hu⟩))
        · refine j_bipush hF dX1_copy_36 (by decide) ?_
          exact hret (-3) st _ _ dX1_copy_38 (Or.inr (Or.inl ⟨⟨⟨f0, f1⟩, ⟨g0, g1⟩⟩, Or.inr c2, rfl, rfl⟩))
    · have hk2 : ¬ fOk g := by
        rcases hb2 with h | h
        · omega
        · exact h.1
      refine j_iconst hF dX1_copy_16 ?_
      exact hret (-1) st _ _ dX1_copy_17 (Or.inl ⟨fun h => hk2 h.2, rfl, rfl⟩)
set_option maxHeartbeats 4000000 in
/-- count() -/
theorem mm_count (l : Launch) (D : va_G) (cI cB : ClassId) (h1 : Nat) (bd : Nat → Nat) (st : PS) (hA : ∀ f : Int, 0 ≤ f → f < 6 → st 0 f = 0 ∨ st 0 f = 1) : MI l D cI cB (mw h1 bd cI cB) yX1_count cX1_count 3 (some .int) 0 0 [.ref h1] st (fun a u => mcnP st u ∧ a = cntM st) := by
  refine MI_of (by decide +kernel) (Nat.le_of_ble_eq_true rfl) (fun E hF hret => ?_)
  have hF : JF E l cX1_count RX1 3 (rmo 0 0) D cI cB := hF
  show J E 0 0 (mw h1 bd cI cB st) 0 [(0, .ref h1)] []
  have loop : ∀ (n : Nat) (j : Nat) (u : PS), 6 - (j : Int) < (n : Int) → j ≤ 6 → fr [3] st u → (∀ g : Int, 0 ≤ g → g < j → u 3 g = 0) → J E 0 0 (mw h1 bd cI cB u) 4 [(0, .ref h1), (1, iv (csum (fun f => if st 0 f = 0 then 0 else 1) j)), (2, iv (j : Int))] [] := by
    intro n
    induction n with
    | zero => intro j u hm j1 hu hz; omega
    | succ n ih =>
      intro j u hm j1 hu hz
      refine j_iload_n hF dX1_count_4 rfl 2 rfl ?_
      refine j_bipush hF dX1_count_5 (by decide) ?_
      refine j_icmp_ge hF 40 dX1_count_7 (by decide) (by omega) (by omega) (fun c1 => ?_) (fun c1 => ?_)
      · have e : j = 6 := by omega
        subst e
        refine j_iload_n hF dX1_count_40 rfl 1 rfl ?_
        exact hret _ u _ _ dX1_count_41 ⟨⟨hu, hz⟩, rfl⟩
      · have r := hA j (by omega) (by omega)
        have hz' : ∀ g : Int, 0 ≤ g → g < ((j + 1 : Nat) : Int) → sw u 3 (j : Int) 0 3 g = 0 := fun g g0 g1 => by
          by_cases hg : g = j
          · rw [hg, sw_eq]
          · rw [sw_na hg]; exact hz g g0 (by omega)
        refine j_aload_n hF dX1_count_10 rfl 0 rfl ?_
        refine mg0 hF dX1_count_11 ?_
        refine j_iload_n hF dX1_count_14 rfl 2 rfl ?_
        refine ml0 hF dX1_count_15 (by omega) ?_
        refine j_top (b := st 0 (j : Int)) (by rw [hu 0 (by decide)]) ?_
        refine j_if_eq hF 25 dX1_count_16 (by decide) (by omega) (fun c2 => ?_) (fun c2 => ?_)
        · refine j_iload_n hF dX1_count_25 rfl 1 rfl ?_
          refine j_top (b := csum (fun f => if st 0 f = 0 then 0 else 1) (j + 1)) (by
            show _ = csum _ j + if st 0 j = 0 then 0 else 1
            rw [if_pos c2, Int.add_zero]) ?_
          refine j_istore_n hF [(0, .ref h1), (1, iv (csum (fun f => if st 0 f = 0 then 0 else 1) (j + 1))), (2, iv (j : Int))] dX1_count_26 rfl (by decide) [1, 0, 2] rfl ?_
          refine j_aload_n hF dX1_count_27 rfl 0 rfl ?_
          refine mg3 hF dX1_count_28 ?_
          refine j_iload_n hF dX1_count_31 rfl 2 rfl ?_
          refine j_iconst hF dX1_count_32 ?_
          refine ms3 hF dX1_count_33 (by omega) (Or.inl rfl) ?_
          refine j_iinc hF [(0, .ref h1), (1, iv (csum (fun f => if st 0 f = 0 then 0 else 1) (j + 1))), (2, iv ((j : Int) + 1))] dX1_count_34 2 rfl (by decide) [1, 2, 0] rfl ?_
          refine j_goto hF 4 dX1_count_37 (by decide) ?_
          exact ih (j + 1) _ (by omega) (by omega) (hu.sw (by decide)) hz'
        · refine j_iload_n hF dX1_count_19 rfl 1 rfl ?_
          refine j_iconst hF dX1_count_20 ?_
          refine j_iadd hF dX1_count_21 ?_
          refine j_top (b := csum (fun f => if st 0 f = 0 then 0 else 1) (j + 1)) (by
            show _ = csum _ j + if st 0 j = 0 then 0 else 1
            rw [if_neg c2]) ?_
          refine j_goto hF 26 dX1_count_22 (by decide) ?_
          refine j_istore_n hF [(0, .ref h1), (1, iv (csum (fun f => if st 0 f = 0 then 0 else 1) (j + 1))), (2, iv (j : Int))] dX1_count_26 rfl (by decide) [1, 0, 2] rfl ?_
          refine j_aload_n hF dX1_count_27 rfl 0 rfl ?_
          refine mg3 hF dX1_count_28 ?_
          refine j_iload_n hF dX1_count_31 rfl 2 rfl ?_
          refine j_iconst hF dX1_count_32 ?_
          refine ms3 hF dX1_count_33 (by omega) (Or.inl rfl) ?_
          refine j_iinc hF [(0, .ref h1), (1, iv (csum (fun f => if st 0 f = 0 then 0 else 1) (j + 1))), (2, iv ((j : Int) + 1))] dX1_count_34 2 rfl (by decide) [1, 2, 0] rfl ?_
          refine j_goto hF 4 dX1_count_37 (by decide) ?_
          exact ih (j + 1) _ (by omega) (by omega) (hu.sw (by decide)) hz'
  refine j_iconst hF dX1_count_0 ?_
  refine j_istore_n hF [(0, .ref h1), (1, iv 0)] dX1_count_1 rfl (by decide) [1, 0] rfl ?_
  refine j_iconst hF dX1_count_2 ?_
  refine j_istore_n hF [(0, .ref h1), (1, iv 0), (2, iv 0)] dX1_count_3 rfl (by decide) [1, 2, 0] rfl ?_
  exact loop 7 0 st (by omega) (by omega) fr.rf (fun g g0 g1 => by omega)
set_option maxHeartbeats 4000000 in
/-- sync() -/
theorem mm_sync (l : Launch) (D : va_G) (cI cB : ClassId) (h1 : Nat) (bd : Nat → Nat) (st : PS) (hI : InvM st) : MI l D cI cB (mw h1 bd cI cB) yX1_sync cX1_sync 2 (some .int) 1 23 [.ref h1] st (mSync st) := by
  refine MI_of (by decide +kernel) (Nat.le_of_ble_eq_true rfl) (fun E hF hret => ?_)
  have hF : JF E l cX1_sync RX1 2 (rmo 1 23) D cI cB := hF
  show J E 0 0 (mw h1 bd cI cB st) 0 [(0, .ref h1)] []
  have loop : ∀ (n : Nat) (f : Int) (u : PS), 6 - f < (n : Int) → 0 ≤ f → f ≤ 6 → msI st f u → J E 0 0 (mw h1 bd cI cB u) 2 [(0, .ref h1), (1, iv f)] [] := by
    intro n
    induction n with
    | zero => intro f u hm f0 f1 hu; omega
    | succ n ih =>
      intro f u hm f0 f1 hu
      refine j_iload_n hF dX1_sync_2 rfl 1 rfl ?_
      refine j_bipush hF dX1_sync_3 (by decide) ?_
      refine j_icmp_ge hF 38 dX1_sync_5 (by decide) (by omega) (by omega) (fun c1 => ?_) (fun c1 => ?_)
      · have e : f = 6 := by omega
        subst e
        refine j_aload_n hF dX1_sync_38 rfl 0 rfl ?_
        refine j_calli (As := []) (n := 0) hF (mm_count l D cI cB h1 bd u (fun g g0 g1 => by rw [(hu.1 g g0 g1).1]; exact (hI.1 g g0 (by omega)).1)) (lw_V q239 q241 qs14 q18 q242) (by decide +kernel) (by decide) ⟨Nat.le_of_ble_eq_true rfl, Nat.le_of_ble_eq_true rfl⟩ rfl 1 rfl rfl rfl [] rfl (by simp [Value.category]) dX1_sync_39 (fun a w hw => ?_)
        obtain ⟨hw, e⟩ := hw
        subst e
        have e0 : cntM w = cntM u := by simp only [cntM, hw.1 0 (by decide)]
        exact hret _ w _ _ dX1_sync_42 ⟨ms_fin hu hw, e0.symm⟩
      · have e1 : u 0 f = st 0 f := (hu.1 f f0 (by omega)).1
        have r := (hI.1 f f0 (by omega)).1
        refine j_aload_n hF dX1_sync_8 rfl 0 rfl ?_
        refine mg0 hF dX1_sync_9 ?_
        refine j_bipush hF dX1_sync_12 (by decide) ?_
        refine j_iload_n hF dX1_sync_14 rfl 1 rfl ?_
        refine j_iadd hF dX1_sync_15 ?_
        refine j_aload_n hF dX1_sync_16 rfl 0 rfl ?_
        refine mg0 hF dX1_sync_17 ?_
        refine j_iload_n hF dX1_sync_20 rfl 1 rfl ?_
        refine ml0 hF dX1_sync_21 (by omega) ?_
        refine j_top (b := st 0 f) (e1) ?_
        refine ms0 hF dX1_sync_22 (by omega) (by omega) ?_
        refine j_aload_n hF dX1_sync_23 rfl 0 rfl ?_
        refine j_iload_n hF dX1_sync_24 rfl 1 rfl ?_
        refine j_bipush hF dX1_sync_25 (by decide) ?_
        refine j_iload_n hF dX1_sync_27 rfl 1 rfl ?_
        refine j_iadd hF dX1_sync_28 ?_
        refine j_callv (As := [iv f, iv (6 + f)]) (n := 2) hF (mm_copyContent l D cI cB h1 bd _ f (6 + f) ⟨f0, by omega⟩ ⟨by omega, by omega⟩) (lw_V q227 q229 qs13 q18 q230) (by decide +kernel) (by decide) ⟨Nat.le_of_ble_eq_true rfl, Nat.le_of_ble_eq_true rfl⟩ rfl 1 rfl rfl rfl [] rfl (by simp [Value.category]) dX1_sync_29 (fun w hw => ?_)
        refine j_iinc hF [(0, .ref h1), (1, iv (f + 1))] dX1_sync_32 1 rfl (by decide) [1, 0] rfl ?_
        refine j_goto hF 2 dX1_sync_35 (by decide) ?_
        exact ih (f + 1) w (by omega) (by omega) (by omega) (msI_s hu f0 (by omega) hw)
  refine j_iconst hF dX1_sync_0 ?_
  refine j_istore_n hF [(0, .ref h1), (1, iv 0)] dX1_sync_1 rfl (by decide) [1, 0] rfl ?_
  exact loop 7 0 st (by omega) (by omega) (by omega) ⟨fun g _ _ => mf.rf, fun g g0 g1 => by omega⟩
set_option maxHeartbeats 4000000 in
/-- crash() -/
theorem mm_crash (l : Launch) (D : va_G) (cI cB : ClassId) (h1 : Nat) (bd : Nat → Nat) (st : PS) (hI : InvM st) : MI l D cI cB (mw h1 bd cI cB) yX1_crash cX1_crash 2 (some .int) 1 23 [.ref h1] st (mCrash st) := by
  refine MI_of (by decide +kernel) (Nat.le_of_ble_eq_true rfl) (fun E hF hret => ?_)
  have hF : JF E l cX1_crash RX1 2 (rmo 1 23) D cI cB := hF
  show J E 0 0 (mw h1 bd cI cB st) 0 [(0, .ref h1)] []
  have loop : ∀ (n : Nat) (f : Int) (u : PS), 6 - f < (n : Int) → 0 ≤ f → f ≤ 6 → mcI st f u → J E 0 0 (mw h1 bd cI cB u) 2 [(0, .ref h1), (1, iv f)] [] := by
    intro n
    induction n with
    | zero => intro f u hm f0 f1 hu; omega
    | succ n ih =>
      intro f u hm f0 f1 hu
      refine j_iload_n hF dX1_crash_2 rfl 1 rfl ?_
      refine j_bipush hF dX1_crash_3 (by decide) ?_
      refine j_icmp_ge hF 38 dX1_crash_5 (by decide) (by omega) (by omega) (fun c1 => ?_) (fun c1 => ?_)
      · have e : f = 6 := by omega
        subst e
        refine j_aload_n hF dX1_crash_38 rfl 0 rfl ?_
        refine j_calli (As := []) (n := 0) hF (mm_count l D cI cB h1 bd u (fun g g0 g1 => by rw [(hu.2 g g0 g1).1]; exact (hI.1 (6 + g) (by omega) (by omega)).1)) (lw_V q239 q241 qs14 q18 q242) (by decide +kernel) (by decide) ⟨Nat.le_of_ble_eq_true rfl, Nat.le_of_ble_eq_true rfl⟩ rfl 1 rfl rfl rfl [] rfl (by simp [Value.category]) dX1_crash_39 (fun a w hw => ?_)
        obtain ⟨hw, e⟩ := hw
        subst e
        have e0 : cntM w = cntM u := by simp only [cntM, hw.1 0 (by decide)]
        exact hret _ w _ _ dX1_crash_42 ⟨mc_fin hu hw, e0.symm⟩
      · have e1 : u 0 (6 + f) = st 0 (6 + f) := (hu.1 f f0 (by omega)).1
        have r := (hI.1 (6 + f) (by omega) (by omega)).1
        refine j_aload_n hF dX1_crash_8 rfl 0 rfl ?_
        refine mg0 hF dX1_crash_9 ?_
        refine j_iload_n hF dX1_crash_12 rfl 1 rfl ?_
        refine j_aload_n hF dX1_crash_13 rfl 0 rfl ?_
        refine mg0 hF dX1_crash_14 ?_
        refine j_bipush hF dX1_crash_17 (by decide) ?_
        refine j_iload_n hF dX1_crash_19 rfl 1 rfl ?_
        refine j_iadd hF dX1_crash_20 ?_
        refine ml0 hF dX1_crash_21 (by omega) ?_
        refine j_top (b := st 0 (6 + f)) (e1) ?_
        refine ms0 hF dX1_crash_22 (by omega) (by omega) ?_
        refine j_aload_n hF dX1_crash_23 rfl 0 rfl ?_
        refine j_bipush hF dX1_crash_24 (by decide) ?_
        refine j_iload_n hF dX1_crash_26 rfl 1 rfl ?_
        refine j_iadd hF dX1_crash_27 ?_
        refine j_iload_n hF dX1_crash_28 rfl 1 rfl ?_
        refine j_callv (As := [iv (6 + f), iv f]) (n := 2) hF (mm_copyContent l D cI cB h1 bd _ (6 + f) f ⟨by omega, by omega⟩ ⟨f0, by omega⟩) (lw_V q227 q229 qs13 q18 q230) (by decide +kernel) (by decide) ⟨Nat.le_of_ble_eq_true rfl, Nat.le_of_ble_eq_true rfl⟩ rfl 1 rfl rfl rfl [] rfl (by simp [Value.category]) dX1_crash_29 (fun w hw => ?_)
        refine j_iinc hF [(0, .ref h1), (1, iv (f + 1))] dX1_crash_32 1 rfl (by decide) [1, 0] rfl ?_
        refine j_goto hF 2 dX1_crash_35 (by decide) ?_
        exact ih (f + 1) w (by omega) (by omega) (by omega) (mcI_s hu f0 (by omega) hw)
  refine j_iconst hF dX1_crash_0 ?_
  refine j_istore_n hF [(0, .ref h1), (1, iv 0)] dX1_crash_1 rfl (by decide) [1, 0] rfl ?_
  exact loop 7 0 st (by omega) (by omega) (by omega) ⟨fun g _ _ => mf.rf, fun g g0 g1 => by omega⟩
set_option maxHeartbeats 4000000 in
/-- fsync(f) -/
theorem mm_fsync (l : Launch) (D : va_G) (cI cB : ClassId) (h1 : Nat) (bd : Nat → Nat) (st : PS) (f : Int) (hI : InvM st) (hf : -2147483648 ≤ f ∧ f ≤ 2147483647) : MI l D cI cB (mw h1 bd cI cB) yX1_fsync cX1_fsync 3 (some .int) 2 44 [.ref h1, iv f] st (mFsync st f) := by
  refine MI_of (by decide +kernel) (Nat.le_of_ble_eq_true rfl) (fun E hF hret => ?_)
  have hF : JF E l cX1_fsync RX1 3 (rmo 2 44) D cI cB := hF
  show J E 0 0 (mw h1 bd cI cB st) 0 [(0, .ref h1), (1, iv f)] []
  refine j_aload_n hF dX1_fsync_0 rfl 0 rfl ?_
  refine j_iload_n hF dX1_fsync_1 rfl 1 rfl ?_
  refine j_calli (As := [iv f]) (n := 1) hF (mm_test l D cI cB h1 bd st f hI hf) (lw_V q211 q213 qs12 q18 q214) (by decide +kernel) (by decide) ⟨Nat.le_of_ble_eq_true rfl, Nat.le_of_ble_eq_true rfl⟩ rfl 1 rfl rfl rfl [] rfl (by simp [Value.category]) dX1_fsync_2 (fun k u_k hb => ?_)
  obtain ⟨e_k, hb⟩ := hb
  rw [e_k]
  have hkr : k = -1 ∨ k = -3 ∨ k = 0 := by
    rcases hb with h | h | h <;> omega
  refine j_istore_n hF [(0, .ref h1), (1, iv f), (2, iv k)] dX1_fsync_5 rfl (by decide) [1, 2, 0] rfl ?_
  refine j_iload_n hF dX1_fsync_6 rfl 2 rfl ?_
  refine j_if_ge hF 12 dX1_fsync_7 (by decide) (by omega) (fun c0 => ?_) (fun c0 => ?_)
  · have hk : fOk f ∧ st 0 f ≠ 0 := by
      rcases hb with h | h | h
      · omega
      · omega
      · exact ⟨h.1, h.2.1⟩
    obtain ⟨⟨f0, f1⟩, ho⟩ := hk
    have m1 := hI.1 f f0 (by omega)
    have m2 := hI.2 f f0 f1
    refine j_aload_n hF dX1_fsync_12 rfl 0 rfl ?_
    refine mg3 hF dX1_fsync_13 ?_
    refine j_iload_n hF dX1_fsync_16 rfl 1 rfl ?_
    refine ml3 hF dX1_fsync_17 (by omega) ?_
    refine j_if_eq hF 28 dX1_fsync_18 (by decide) (by omega) (fun c1 => ?_) (fun c1 => ?_)
    · refine j_aload_n hF dX1_fsync_28 rfl 0 rfl ?_
      refine mg0 hF dX1_fsync_29 ?_
      refine j_bipush hF dX1_fsync_32 (by decide) ?_
      refine j_iload_n hF dX1_fsync_34 rfl 1 rfl ?_
      refine j_iadd hF dX1_fsync_35 ?_
      refine j_iconst hF dX1_fsync_36 ?_
      refine ms0 hF dX1_fsync_37 (by omega) (Or.inr rfl) ?_
      refine j_aload_n hF dX1_fsync_38 rfl 0 rfl ?_
      refine j_iload_n hF dX1_fsync_39 rfl 1 rfl ?_
      refine j_bipush hF dX1_fsync_40 (by decide) ?_
      refine j_iload_n hF dX1_fsync_42 rfl 1 rfl ?_
      refine j_iadd hF dX1_fsync_43 ?_
      refine j_callv (As := [iv f, iv (6 + f)]) (n := 2) hF (mm_copyContent l D cI cB h1 bd _ f (6 + f) ⟨f0, by omega⟩ ⟨by omega, by omega⟩) (lw_V q227 q229 qs13 q18 q230) (by decide +kernel) (by decide) ⟨Nat.le_of_ble_eq_true rfl, Nat.le_of_ble_eq_true rfl⟩ rfl 1 rfl rfl rfl [] rfl (by simp [Value.category]) dX1_fsync_44 (fun u hu => ?_)
      refine j_iconst hF dX1_fsync_47 ?_
      exact hret 0 u _ _ dX1_fsync_48 (Or.inr (Or.inr (Or.inr ⟨⟨f0, f1⟩, ho, c1, rfl, hu⟩)))
    · refine j_aload_n hF dX1_fsync_21 rfl 0 rfl ?_
      refine j_calli (As := []) (n := 0) hF (mm_sync l D cI cB h1 bd st hI) (lw_V q235 q236 q237 q18 q238) (by decide +kernel) (by decide) ⟨Nat.le_of_ble_eq_true rfl, Nat.le_of_ble_eq_true rfl⟩ rfl 1 rfl rfl rfl [] rfl (by simp [Value.category]) dX1_fsync_22 (fun a u hu => ?_)
      refine j_pop hF dX1_fsync_25 rfl ?_
      refine j_iconst hF dX1_fsync_26 ?_
      exact hret 1 u _ _ dX1_fsync_27 (Or.inr (Or.inr (Or.inl ⟨⟨f0, f1⟩, ho, c1, rfl, hu.1⟩)))
  · refine j_iload_n hF dX1_fsync_10 rfl 2 rfl ?_
    refine hret k st _ _ dX1_fsync_11 ?_
    rcases hb with h | h | h
    · exact Or.inl ⟨h.1, h.2, rfl⟩
    · exact Or.inr (Or.inl ⟨h.1, h.2.1, h.2.2, rfl⟩)
    · omega
set_option maxHeartbeats 4000000 in
/-- exists(f) -/
theorem mm_exists (l : Launch) (D : va_G) (cI cB : ClassId) (h1 : Nat) (bd : Nat → Nat) (st : PS) (f : Int) (hI : InvM st) (hf : -2147483648 ≤ f ∧ f ≤ 2147483647) : MI l D cI cB (mw h1 bd cI cB) yX1_exists cX1_exists 2 (some .boolean) 1 21 [.ref h1, iv f] st (fun a u => (a = 0 ∨ a = 1) ∧ mExists st f a u) := by
  refine MI_ofZ (by decide +kernel) (Nat.le_of_ble_eq_true rfl) (fun E hF hret => ?_)
  have hF : JF E l cX1_exists RX1 2 (rmo 1 21) D cI cB := hF
  show J E 0 0 (mw h1 bd cI cB st) 0 [(0, .ref h1), (1, iv f)] []
  refine j_aload_n hF dX1_exists_0 rfl 0 rfl ?_
  refine j_iload_n hF dX1_exists_1 rfl 1 rfl ?_
  refine j_calli (As := [iv f]) (n := 1) hF (mm_isFile l D cI cB h1 bd st f hf) (lw_V q203 q205 qs11 q18 q206) (by decide +kernel) (by decide) ⟨Nat.le_of_ble_eq_true rfl, Nat.le_of_ble_eq_true rfl⟩ rfl 1 rfl rfl rfl [] rfl (by simp [Value.category]) dX1_exists_2 (fun k u_k hb => ?_)
  obtain ⟨e_k, hb⟩ := hb
  rw [e_k]
  refine j_if_eq hF 21 dX1_exists_5 (by decide) (by omega) (fun c0 => ?_) (fun c0 => ?_)
  · have hk : ¬ fOk f := by
      rcases hb with h | h
      · omega
      · exact h.1
    refine j_iconst hF dX1_exists_21 ?_
    exact hret 0 st _ _ dX1_exists_22 (Or.inl rfl) ⟨Or.inl rfl, rfl, Or.inr ⟨fun h => hk h.1, rfl⟩⟩
  · have hk : fOk f := by
      rcases hb with h | h
      · exact h.1
      · omega
    obtain ⟨f0, f1⟩ := hk
    have m1 := hI.1 f f0 (by omega)
    have m2 := hI.2 f f0 f1
    refine j_aload_n hF dX1_exists_8 rfl 0 rfl ?_
    refine mg0 hF dX1_exists_9 ?_
    refine j_iload_n hF dX1_exists_12 rfl 1 rfl ?_
    refine ml0 hF dX1_exists_13 (by omega) ?_
    refine j_if_eq hF 21 dX1_exists_14 (by decide) (by omega) (fun c1 => ?_) (fun c1 => ?_)
    · refine j_iconst hF dX1_exists_21 ?_
      exact hret 0 st _ _ dX1_exists_22 (Or.inl rfl) ⟨Or.inl rfl, rfl, Or.inr ⟨fun h => h.2 c1, rfl⟩⟩
    · refine j_iconst hF dX1_exists_17 ?_
      refine j_goto hF 22 dX1_exists_18 (by decide) ?_
      exact hret 1 st _ _ dX1_exists_22 (Or.inr rfl) ⟨Or.inr rfl, rfl, Or.inl ⟨⟨⟨f0, f1⟩, c1⟩, rfl⟩⟩
set_option maxHeartbeats 4000000 in
/-- size(f) -/
theorem mm_size (l : Launch) (D : va_G) (cI cB : ClassId) (h1 : Nat) (bd : Nat → Nat) (st : PS) (f : Int) (hI : InvM st) (hf : -2147483648 ≤ f ∧ f ≤ 2147483647) : MI l D cI cB (mw h1 bd cI cB) yX1_size cX1_size 3 (some .int) 2 42 [.ref h1, iv f] st (mSize st f) := by
  refine MI_of (by decide +kernel) (Nat.le_of_ble_eq_true rfl) (fun E hF hret => ?_)
  have hF : JF E l cX1_size RX1 3 (rmo 2 42) D cI cB := hF
  show J E 0 0 (mw h1 bd cI cB st) 0 [(0, .ref h1), (1, iv f)] []
  refine j_aload_n hF dX1_size_0 rfl 0 rfl ?_
  refine j_iload_n hF dX1_size_1 rfl 1 rfl ?_
  refine j_calli (As := [iv f]) (n := 1) hF (mm_test l D cI cB h1 bd st f hI hf) (lw_V q211 q213 qs12 q18 q214) (by decide +kernel) (by decide) ⟨Nat.le_of_ble_eq_true rfl, Nat.le_of_ble_eq_true rfl⟩ rfl 1 rfl rfl rfl [] rfl (by simp [Value.category]) dX1_size_2 (fun k u_k hb => ?_)
  obtain ⟨e_k, hb⟩ := hb
  rw [e_k]
  have hkr : k = -1 ∨ k = -3 ∨ k = 0 := by
    rcases hb with h | h | h <;> omega
  refine j_istore_n hF [(0, .ref h1), (1, iv f), (2, iv k)] dX1_size_5 rfl (by decide) [1, 2, 0] rfl ?_
  refine j_iload_n hF dX1_size_6 rfl 2 rfl ?_
  refine j_if_ge hF 14 dX1_size_7 (by decide) (by omega) (fun c0 => ?_) (fun c0 => ?_)
  · have hk : fOk f ∧ st 0 f ≠ 0 := by
      rcases hb with h | h | h
      · omega
      · omega
      · exact ⟨h.1, h.2.1⟩
    obtain ⟨⟨f0, f1⟩, ho⟩ := hk
    have m1 := hI.1 f f0 (by omega)
    have m2 := hI.2 f f0 f1
    refine j_aload_n hF dX1_size_14 rfl 0 rfl ?_
    refine mg1 hF dX1_size_15 ?_
    refine j_iload_n hF dX1_size_18 rfl 1 rfl ?_
    refine ml1 hF dX1_size_19 (by omega) ?_
    exact hret _ st _ _ dX1_size_20 ⟨rfl, Or.inr (Or.inr ⟨⟨f0, f1⟩, ho, rfl⟩)⟩
  · refine j_iload_n hF dX1_size_10 rfl 2 rfl ?_
    refine j_goto hF 20 dX1_size_11 (by decide) ?_
    refine hret k st _ _ dX1_size_20 ⟨rfl, ?_⟩
    rcases hb with h | h | h
    · exact Or.inl h
    · exact Or.inr (Or.inl h)
    · omega
set_option maxHeartbeats 4000000 in
/-- read(f, i) -/
theorem mm_read (l : Launch) (D : va_G) (cI cB : ClassId) (h1 : Nat) (bd : Nat → Nat) (st : PS) (f i : Int) (hI : InvM st) (hf : -2147483648 ≤ f ∧ f ≤ 2147483647) (hi : -2147483648 ≤ i ∧ i ≤ 2147483647) : MI l D cI cB (mw h1 bd cI cB) yX1_read cX1_read 3 (some .int) 2 42 [.ref h1, iv f, iv i] st (mRead st f i) := by
  refine MI_of (by decide +kernel) (Nat.le_of_ble_eq_true rfl) (fun E hF hret => ?_)
  have hF : JF E l cX1_read RX1 3 (rmo 2 42) D cI cB := hF
  show J E 0 0 (mw h1 bd cI cB st) 0 [(0, .ref h1), (1, iv f), (2, iv i)] []
  refine j_aload_n hF dX1_read_0 rfl 0 rfl ?_
  refine j_iload_n hF dX1_read_1 rfl 1 rfl ?_
  refine j_calli (As := [iv f]) (n := 1) hF (mm_exists l D cI cB h1 bd st f hI hf) (lw_V q260 q249 q250 q18 q251) (by decide +kernel) (by decide) ⟨Nat.le_of_ble_eq_true rfl, Nat.le_of_ble_eq_true rfl⟩ rfl 1 rfl rfl rfl [] rfl (by simp [Value.category]) dX1_read_2 (fun k u_k hb => ?_)
  obtain ⟨hk01, e_k, hb⟩ := hb
  rw [e_k]
  refine j_if_eq hF 35 dX1_read_5 (by decide) (by omega) (fun c0 => ?_) (fun c0 => ?_)
  · have hk : ¬ (fOk f ∧ st 0 f ≠ 0) := by
      rcases hb with h | h
      · omega
      · exact h.1
    refine j_iconst hF dX1_read_35 ?_
    exact hret 0 st _ _ dX1_read_36 ⟨rfl, Or.inr ⟨fun h => hk ⟨h.1, h.2.1⟩, rfl⟩⟩
  · have hk : fOk f ∧ st 0 f ≠ 0 := by
      rcases hb with h | h
      · exact h.1
      · omega
    obtain ⟨⟨f0, f1⟩, ho⟩ := hk
    have m1 := hI.1 f f0 (by omega)
    refine j_iload_n hF dX1_read_8 rfl 2 rfl ?_
    refine j_if_lt hF 35 dX1_read_9 (by decide) (by omega) (fun c1 => ?_) (fun c1 => ?_)
    · refine j_iconst hF dX1_read_35 ?_
      exact hret 0 st _ _ dX1_read_36 ⟨rfl, Or.inr ⟨fun h => by have := h.2.2.1; omega, rfl⟩⟩
    · refine j_iload_n hF dX1_read_12 rfl 2 rfl ?_
      refine j_aload_n hF dX1_read_13 rfl 0 rfl ?_
      refine mg1 hF dX1_read_14 ?_
      refine j_iload_n hF dX1_read_17 rfl 1 rfl ?_
      refine ml1 hF dX1_read_18 (by omega) ?_
      refine j_icmp_ge hF 35 dX1_read_19 (by decide) (by omega) (by omega) (fun c2 => ?_) (fun c2 => ?_)
      · refine j_iconst hF dX1_read_35 ?_
        exact hret 0 st _ _ dX1_read_36 ⟨rfl, Or.inr ⟨fun h => by have := h.2.2.2; omega, rfl⟩⟩
      · refine j_aload_n hF dX1_read_22 rfl 0 rfl ?_
        refine mg2 hF dX1_read_23 ?_
        refine j_iconst hF dX1_read_26 ?_
        refine j_iload_n hF dX1_read_27 rfl 1 rfl ?_
        refine j_imul hF dX1_read_28 ?_
        refine j_iload_n hF dX1_read_29 rfl 2 rfl ?_
        refine j_iadd hF dX1_read_30 ?_
        refine ml2 hF dX1_read_31 (by omega) ?_
        refine j_goto hF 36 dX1_read_32 (by decide) ?_
        exact hret _ st _ _ dX1_read_36 ⟨rfl, Or.inl ⟨⟨⟨f0, f1⟩, ho, by omega, by omega⟩, rfl⟩⟩
set_option maxHeartbeats 4000000 in
/-- differs(f) -/
theorem mm_differs (l : Launch) (D : va_G) (cI cB : ClassId) (h1 : Nat) (bd : Nat → Nat) (st : PS) (f : Int) (hI : InvM st) (f0 : 0 ≤ f) (f1 : f < 6) : MI l D cI cB (mw h1 bd cI cB) yX1_differs cX1_differs 3 (some .boolean) 0 0 [.ref h1, iv f] st (fun a u => u = st ∧ ((difM st f ∧ a = 1) ∨ (¬ difM st f ∧ a = 0))) := by
  refine MI_ofZ (by decide +kernel) (Nat.le_of_ble_eq_true rfl) (fun E hF hret => ?_)
  have hF : JF E l cX1_differs RX1 3 (rmo 0 0) D cI cB := hF
  show J E 0 0 (mw h1 bd cI cB st) 0 [(0, .ref h1), (1, iv f)] []
  have m1 := hI.1 f f0 (by omega)
  have m2 := hI.1 (6 + f) (by omega) (by omega)
  refine j_aload_n hF dX1_differs_0 rfl 0 rfl ?_
  refine mg0 hF dX1_differs_1 ?_
  refine j_iload_n hF dX1_differs_4 rfl 1 rfl ?_
  refine ml0 hF dX1_differs_5 (by omega) ?_
  refine j_aload_n hF dX1_differs_6 rfl 0 rfl ?_
  refine mg0 hF dX1_differs_7 ?_
  refine j_bipush hF dX1_differs_10 (by decide) ?_
  refine j_iload_n hF dX1_differs_12 rfl 1 rfl ?_
  refine j_iadd hF dX1_differs_13 ?_
  refine ml0 hF dX1_differs_14 (by omega) ?_
  refine j_icmp_eq hF 20 dX1_differs_15 (by decide) (by omega) (by omega) (fun c1 => ?_) (fun c1 => ?_)
  · refine j_aload_n hF dX1_differs_20 rfl 0 rfl ?_
    refine mg0 hF dX1_differs_21 ?_
    refine j_iload_n hF dX1_differs_24 rfl 1 rfl ?_
    refine ml0 hF dX1_differs_25 (by omega) ?_
    refine j_if_ne hF 31 dX1_differs_26 (by decide) (by omega) (fun c2 => ?_) (fun c2 => ?_)
    · have loop : ∀ (n : Nat) (i : Int), st 1 f - i < (n : Int) → 0 ≤ i → i ≤ st 1 f → (∀ j : Int, 0 ≤ j → j < i → Int32.ofInt (st 2 (4 * f + j)) = Int32.ofInt (st 2 (24 + 4 * f + j))) → J E 0 0 (mw h1 bd cI cB st) 33 [(0, .ref h1), (1, iv f), (2, iv i)] [] := by
        intro n
        induction n with
        | zero => intro i hm i0 i1 hJ; omega
        | succ n ih =>
          intro i hm i0 i1 hJ
          refine j_iload_n hF dX1_differs_33 rfl 2 rfl ?_
          refine j_aload_n hF dX1_differs_34 rfl 0 rfl ?_
          refine mg1 hF dX1_differs_35 ?_
          refine j_iload_n hF dX1_differs_38 rfl 1 rfl ?_
          refine ml1 hF dX1_differs_39 (by omega) ?_
          refine j_icmp_ge hF 77 dX1_differs_40 (by decide) (by omega) (by omega) (fun c3 => ?_) (fun c3 => ?_)
          · refine j_aload_n hF dX1_differs_77 rfl 0 rfl ?_
            refine mg1 hF dX1_differs_78 ?_
            refine j_iload_n hF dX1_differs_81 rfl 1 rfl ?_
            refine ml1 hF dX1_differs_82 (by omega) ?_
            refine j_aload_n hF dX1_differs_83 rfl 0 rfl ?_
            refine mg1 hF dX1_differs_84 ?_
            refine j_bipush hF dX1_differs_87 (by decide) ?_
            refine j_iload_n hF dX1_differs_89 rfl 1 rfl ?_
            refine j_iadd hF dX1_differs_90 ?_
            refine ml1 hF dX1_differs_91 (by omega) ?_
            refine j_icmp_eq hF 99 dX1_differs_92 (by decide) (by omega) (by omega) (fun c4 => ?_) (fun c4 => ?_)
            · refine j_iconst hF dX1_differs_99 ?_
              refine hret 0 st _ _ dX1_differs_100 (Or.inl rfl) ⟨rfl, Or.inr ⟨fun h => ?_, rfl⟩⟩
              rcases h with h | ⟨-, -, ⟨j, j0, j1, h⟩ | h⟩
              · exact h c1
              · exact h (hJ j j0 (by omega))
              · exact h c4
            · refine j_iconst hF dX1_differs_95 ?_
              refine j_goto hF 100 dX1_differs_96 (by decide) ?_
              exact hret 1 st _ _ dX1_differs_100 (Or.inr rfl) ⟨rfl, Or.inl ⟨Or.inr ⟨c1, c2, Or.inr c4⟩, rfl⟩⟩
          · refine j_aload_n hF dX1_differs_43 rfl 0 rfl ?_
            refine mg2 hF dX1_differs_44 ?_
            refine j_iconst hF dX1_differs_47 ?_
            refine j_iload_n hF dX1_differs_48 rfl 1 rfl ?_
            refine j_imul hF dX1_differs_49 ?_
            refine j_iload_n hF dX1_differs_50 rfl 2 rfl ?_
            refine j_iadd hF dX1_differs_51 ?_
            refine ml2 hF dX1_differs_52 (by omega) ?_
            refine j_aload_n hF dX1_differs_53 rfl 0 rfl ?_
            refine mg2 hF dX1_differs_54 ?_
            refine j_bipush hF dX1_differs_57 (by decide) ?_
            refine j_iconst hF dX1_differs_59 ?_
            refine j_iload_n hF dX1_differs_60 rfl 1 rfl ?_
            refine j_imul hF dX1_differs_61 ?_
            refine j_iadd hF dX1_differs_62 ?_
            refine j_iload_n hF dX1_differs_63 rfl 2 rfl ?_
            refine j_iadd hF dX1_differs_64 ?_
            refine ml2 hF dX1_differs_65 (by omega) ?_
            refine j_wcmp_eq hF 71 dX1_differs_66 (by decide) (fun c5 => ?_) (fun c5 => ?_)
            · refine j_iinc hF [(0, .ref h1), (1, iv f), (2, iv (i + 1))] dX1_differs_71 2 rfl (by decide) [1, 2, 0] rfl ?_
              refine j_goto hF 33 dX1_differs_74 (by decide) ?_
              refine ih (i + 1) (by omega) (by omega) (by omega) (fun j j0 j1 => ?_)
              by_cases hj : j = i
              · subst hj; exact c5
              · exact hJ j j0 (by omega)
            · refine j_iconst hF dX1_differs_69 ?_
              exact hret 1 st _ _ dX1_differs_70 (Or.inr rfl) ⟨rfl, Or.inl ⟨Or.inr ⟨c1, c2, Or.inl ⟨i, i0, by omega, c5⟩⟩, rfl⟩⟩
      refine j_iconst hF dX1_differs_31 ?_
      refine j_istore_n hF [(0, .ref h1), (1, iv f), (2, iv 0)] dX1_differs_32 rfl (by decide) [1, 2, 0] rfl ?_
      exact loop 5 0 (by omega) (by omega) (by omega) (fun j j0 j1 => by omega)
    · refine j_iconst hF dX1_differs_29 ?_
      exact hret 0 st _ _ dX1_differs_30 (Or.inl rfl) ⟨rfl, Or.inr ⟨fun h => by rcases h with h | ⟨-, h, -⟩ <;> omega, rfl⟩⟩
  · refine j_iconst hF dX1_differs_18 ?_
    exact hret 1 st _ _ dX1_differs_19 (Or.inr rfl) ⟨rfl, Or.inl ⟨Or.inl c1, rfl⟩⟩
set_option maxHeartbeats 4000000 in
/-- how many files differ from what lasts -/
theorem mm_uns (l : Launch) (D : va_G) (cI cB : ClassId) (h1 : Nat) (bd : Nat → Nat) (st : PS) (hI : InvM st) : MI l D cI cB (mw h1 bd cI cB) yX1_uns cX1_uns 3 (some .int) 1 22 [.ref h1] st (mUns st) := by
  refine MI_of (by decide +kernel) (Nat.le_of_ble_eq_true rfl) (fun E hF hret => ?_)
  have hF : JF E l cX1_uns RX1 3 (rmo 1 22) D cI cB := hF
  show J E 0 0 (mw h1 bd cI cB st) 0 [(0, .ref h1)] []
  have loop : ∀ (n : Nat) (j : Nat), 6 - (j : Int) < (n : Int) → j ≤ 6 → J E 0 0 (mw h1 bd cI cB st) 4 [(0, .ref h1), (1, iv (csum (fun f => d01 (difM st f)) j)), (2, iv (j : Int))] [] := by
    intro n
    induction n with
    | zero => intro j hm j1; omega
    | succ n ih =>
      intro j hm j1
      refine j_iload_n hF dX1_uns_4 rfl 2 rfl ?_
      refine j_bipush hF dX1_uns_5 (by decide) ?_
      refine j_icmp_ge hF 32 dX1_uns_7 (by decide) (by omega) (by omega) (fun c1 => ?_) (fun c1 => ?_)
      · have e : j = 6 := by omega
        subst e
        refine j_iload_n hF dX1_uns_32 rfl 1 rfl ?_
        exact hret _ st _ _ dX1_uns_33 ⟨rfl, rfl⟩
      · refine j_aload_n hF dX1_uns_10 rfl 0 rfl ?_
        refine j_iload_n hF dX1_uns_11 rfl 2 rfl ?_
        refine j_calli (As := [iv (j : Int)]) (n := 1) hF (mm_differs l D cI cB h1 bd st (j : Int) hI (by omega) (by omega)) (lw_V q265 q267 qs15 q18 q268) (by decide +kernel) (by decide) ⟨Nat.le_of_ble_eq_true rfl, Nat.le_of_ble_eq_true rfl⟩ rfl 1 rfl rfl rfl [] rfl (by simp [Value.category]) dX1_uns_12 (fun k u hu => ?_)
        obtain ⟨e, hu⟩ := hu
        rw [e]
        have hk : k = d01 (difM st (j : Int)) ∧ (k = 0 ∨ k = 1) := by
          rcases hu with ⟨h, h'⟩ | ⟨h, h'⟩
          · exact ⟨by rw [d01_t h, h'], Or.inr h'⟩
          · exact ⟨by rw [d01_f h, h'], Or.inl h'⟩
        obtain ⟨hk, hk2⟩ := hk
        refine j_if_eq hF 24 dX1_uns_15 (by decide) (by omega) (fun c2 => ?_) (fun c2 => ?_)
        · refine j_iload_n hF dX1_uns_24 rfl 1 rfl ?_
          refine j_top (b := csum (fun f => d01 (difM st f)) (j + 1)) (by
            show _ = csum _ j + d01 (difM st (j : Int))
            rw [← hk, c2, Int.add_zero]) ?_
          refine j_istore_n hF [(0, .ref h1), (1, iv (csum (fun f => d01 (difM st f)) (j + 1))), (2, iv (j : Int))] dX1_uns_25 rfl (by decide) [1, 0, 2] rfl ?_
          refine j_iinc hF [(0, .ref h1), (1, iv (csum (fun f => d01 (difM st f)) (j + 1))), (2, iv ((j : Int) + 1))] dX1_uns_26 2 rfl (by decide) [1, 2, 0] rfl ?_
          refine j_goto hF 4 dX1_uns_29 (by decide) ?_
          exact ih (j + 1) (by omega) (by omega)
        · refine j_iload_n hF dX1_uns_18 rfl 1 rfl ?_
          refine j_iconst hF dX1_uns_19 ?_
          refine j_iadd hF dX1_uns_20 ?_
          refine j_top (b := csum (fun f => d01 (difM st f)) (j + 1)) (by
            show _ = csum _ j + d01 (difM st (j : Int))
            rw [← hk, hk2.resolve_left c2]) ?_
          refine j_goto hF 25 dX1_uns_21 (by decide) ?_
          refine j_istore_n hF [(0, .ref h1), (1, iv (csum (fun f => d01 (difM st f)) (j + 1))), (2, iv (j : Int))] dX1_uns_25 rfl (by decide) [1, 0, 2] rfl ?_
          refine j_iinc hF [(0, .ref h1), (1, iv (csum (fun f => d01 (difM st f)) (j + 1))), (2, iv ((j : Int) + 1))] dX1_uns_26 2 rfl (by decide) [1, 2, 0] rfl ?_
          refine j_goto hF 4 dX1_uns_29 (by decide) ?_
          exact ih (j + 1) (by omega) (by omega)
  refine j_iconst hF dX1_uns_0 ?_
  refine j_istore_n hF [(0, .ref h1), (1, iv 0)] dX1_uns_1 rfl (by decide) [1, 0] rfl ?_
  refine j_iconst hF dX1_uns_2 ?_
  refine j_istore_n hF [(0, .ref h1), (1, iv 0), (2, iv 0)] dX1_uns_3 rfl (by decide) [1, 2, 0] rfl ?_
  exact loop 7 0 (by omega) (by omega)
set_option maxHeartbeats 4000000 in
/-- digest() -/
theorem mm_digest (l : Launch) (D : va_G) (cI cB : ClassId) (h1 : Nat) (bd : Nat → Nat) (st : PS) (hI : InvM st) : MI l D cI cB (mw h1 bd cI cB) yX1_digest cX1_digest 4 (some .int) 3 64 [.ref h1] st (mDigest st) := by
  refine MI_of (by decide +kernel) (Nat.le_of_ble_eq_true rfl) (fun E hF hret => ?_)
  have hF : JF E l cX1_digest RX1 4 (rmo 3 64) D cI cB := hF
  show J E 0 0 (mw h1 bd cI cB st) 0 [(0, .ref h1)] []
  have loop : ∀ (n : Nat) (j : Nat), 6 - (j : Int) < (n : Int) → j ≤ 6 → J E 0 0 (mw h1 bd cI cB st) 4 [(0, .ref h1), (1, iv (csum (dgM st) j)), (2, iv (j : Int))] [] := by
    intro n
    induction n with
    | zero => intro j hm j1; omega
    | succ n ih =>
      intro j hm j1
      refine j_iload_n hF dX1_digest_4 rfl 2 rfl ?_
      refine j_bipush hF dX1_digest_5 (by decide) ?_
      refine j_icmp_ge hF 79 dX1_digest_7 (by decide) (by omega) (by omega) (fun c1 => ?_) (fun c1 => ?_)
      · have e : j = 6 := by omega
        subst e
        refine j_iload_n hF dX1_digest_79 rfl 1 rfl ?_
        exact hret _ st _ _ dX1_digest_80 ⟨rfl, rfl⟩
      · have m1 := hI.1 j (by omega) (by omega)
        have loop2 : ∀ (n : Nat) (i : Nat), 4 - (i : Int) < (n : Int) → i ≤ 4 → J E 0 0 (mw h1 bd cI cB st) 44 [(0, .ref h1), (1, iv (csum (dgM st) j + (if st 0 (j : Int) = 0 then 0 else 1000 * ((j : Int) + 1) * (st 1 (j : Int) + 1)) + csum (dgJ st j) i)), (2, iv (j : Int)), (3, iv (i : Int))] [] := by
          intro n
          induction n with
          | zero => intro i hm2 i1; omega
          | succ n ih2 =>
            intro i hm2 i1
            refine j_iload_n hF dX1_digest_44 rfl 3 rfl ?_
            refine j_iconst hF dX1_digest_45 ?_
            refine j_icmp_ge hF 73 dX1_digest_46 (by decide) (by omega) (by omega) (fun c3 => ?_) (fun c3 => ?_)
            · have e4 : i = 4 := by omega
              subst e4
              have e : csum (dgM st) j + (if st 0 (j : Int) = 0 then 0 else 1000 * ((j : Int) + 1) * (st 1 (j : Int) + 1)) + csum (dgJ st j) 4 = csum (dgM st) (j + 1) := by
                show _ = csum _ j + dgM st j
                rw [dgM, Int.add_assoc]
              rw [e]
              refine j_iinc hF [(0, .ref h1), (1, iv (csum (dgM st) (j + 1))), (2, iv ((j : Int) + 1)), (3, iv ((4 : Nat) : Int))] dX1_digest_73 2 rfl (by decide) [1, 2, 0, 3] rfl ?_
              refine j_goto hF 4 dX1_digest_76 (by decide) ?_
              exact j_loc [0, 1, 2] rfl (ih (j + 1) (by omega) (by omega))
            · refine j_iload_n hF dX1_digest_49 rfl 1 rfl ?_
              refine j_bipush hF dX1_digest_50 (by decide) ?_
              refine j_iload_n hF dX1_digest_52 rfl 2 rfl ?_
              refine j_imul hF dX1_digest_53 ?_
              refine j_iload_n hF dX1_digest_54 rfl 3 rfl ?_
              refine j_iadd hF dX1_digest_55 ?_
              refine j_iconst hF dX1_digest_56 ?_
              refine j_iadd hF dX1_digest_57 ?_
              refine j_aload_n hF dX1_digest_58 rfl 0 rfl ?_
              refine j_iload_n hF dX1_digest_59 rfl 2 rfl ?_
              refine j_iload_n hF dX1_digest_60 rfl 3 rfl ?_
              refine j_calli (As := [iv (j : Int), iv (i : Int)]) (n := 2) hF (mm_read l D cI cB h1 bd st (j : Int) (i : Int) hI (by omega) (by omega)) (lw_V q273 q257 q258 q18 q259) (by decide +kernel) (by decide) ⟨Nat.le_of_ble_eq_true rfl, Nat.le_of_ble_eq_true rfl⟩ rfl 1 rfl rfl rfl [iv (((8 * (j : Int)) + (i : Int)) + 1), iv (csum (dgM st) j + (if st 0 (j : Int) = 0 then 0 else 1000 * ((j : Int) + 1) * (st 1 (j : Int) + 1)) + csum (dgJ st j) i)] rfl (by simp [Value.category]) dX1_digest_61 (fun k u hu => ?_)
              obtain ⟨e, hu⟩ := hu
              rw [e]
              have hk : k = rdM st (j : Int) (i : Int) := by
                rcases hu with ⟨h, h'⟩ | ⟨h, h'⟩
                · rw [rdM, if_pos ⟨h.2.1, h.2.2.2⟩, h']
                · rw [rdM, if_neg (fun z => h ⟨⟨by omega, by omega⟩, z.1, by omega, z.2⟩), h']
              subst hk
              refine j_imul hF dX1_digest_64 ?_
              refine j_iadd hF dX1_digest_65 ?_
              refine j_top (b := csum (dgM st) j + (if st 0 (j : Int) = 0 then 0 else 1000 * ((j : Int) + 1) * (st 1 (j : Int) + 1)) + csum (dgJ st j) (i + 1)) (by rw [show csum (dgJ st j) (i + 1) = csum (dgJ st j) i + (8 * (j : Int) + i + 1) * rdM st (j : Int) (i : Int) from rfl, ← Int.add_assoc]) ?_
              refine j_istore_n hF [(0, .ref h1), (1, iv (csum (dgM st) j + (if st 0 (j : Int) = 0 then 0 else 1000 * ((j : Int) + 1) * (st 1 (j : Int) + 1)) + csum (dgJ st j) (i + 1))), (2, iv (j : Int)), (3, iv (i : Int))] dX1_digest_66 rfl (by decide) [1, 0, 2, 3] rfl ?_
              refine j_iinc hF [(0, .ref h1), (1, iv (csum (dgM st) j + (if st 0 (j : Int) = 0 then 0 else 1000 * ((j : Int) + 1) * (st 1 (j : Int) + 1)) + csum (dgJ st j) (i + 1))), (2, iv (j : Int)), (3, iv ((i : Int) + 1))] dX1_digest_67 3 rfl (by decide) [1, 2, 3, 0] rfl ?_
              refine j_goto hF 44 dX1_digest_70 (by decide) ?_
              exact ih2 (i + 1) (by omega) (by omega)
        refine j_aload_n hF dX1_digest_10 rfl 0 rfl ?_
        refine mg0 hF dX1_digest_11 ?_
        refine j_iload_n hF dX1_digest_14 rfl 2 rfl ?_
        refine ml0 hF dX1_digest_15 (by omega) ?_
        refine j_if_eq hF 40 dX1_digest_16 (by decide) (by omega) (fun c2 => ?_) (fun c2 => ?_)
        · refine j_iload_n hF dX1_digest_40 rfl 1 rfl ?_
          refine j_top (b := csum (dgM st) j + (if st 0 (j : Int) = 0 then 0 else 1000 * ((j : Int) + 1) * (st 1 (j : Int) + 1)) + csum (dgJ st j) 0) (by rw [show csum (dgJ st j) 0 = 0 from rfl, Int.add_zero, if_pos c2, Int.add_zero]) ?_
          refine j_istore_n hF [(0, .ref h1), (1, iv (csum (dgM st) j + (if st 0 (j : Int) = 0 then 0 else 1000 * ((j : Int) + 1) * (st 1 (j : Int) + 1)) + csum (dgJ st j) 0)), (2, iv (j : Int))] dX1_digest_41 rfl (by decide) [1, 0, 2] rfl ?_
          refine j_iconst hF dX1_digest_42 ?_
          refine j_istore_n hF [(0, .ref h1), (1, iv (csum (dgM st) j + (if st 0 (j : Int) = 0 then 0 else 1000 * ((j : Int) + 1) * (st 1 (j : Int) + 1)) + csum (dgJ st j) 0)), (2, iv (j : Int)), (3, iv 0)] dX1_digest_43 rfl (by decide) [1, 2, 3, 0] rfl ?_
          exact loop2 5 0 (by omega) (by omega)
        · refine j_iload_n hF dX1_digest_19 rfl 1 rfl ?_
          refine j_sipush hF dX1_digest_20 (by decide) ?_
          refine j_iload_n hF dX1_digest_23 rfl 2 rfl ?_
          refine j_iconst hF dX1_digest_24 ?_
          refine j_iadd hF dX1_digest_25 ?_
          refine j_imul hF dX1_digest_26 ?_
          refine j_aload_n hF dX1_digest_27 rfl 0 rfl ?_
          refine mg1 hF dX1_digest_28 ?_
          refine j_iload_n hF dX1_digest_31 rfl 2 rfl ?_
          refine ml1 hF dX1_digest_32 (by omega) ?_
          refine j_iconst hF dX1_digest_33 ?_
          refine j_iadd hF dX1_digest_34 ?_
          refine j_imul hF dX1_digest_35 ?_
          refine j_iadd hF dX1_digest_36 ?_
          refine j_top (b := csum (dgM st) j + (if st 0 (j : Int) = 0 then 0 else 1000 * ((j : Int) + 1) * (st 1 (j : Int) + 1)) + csum (dgJ st j) 0) (by rw [show csum (dgJ st j) 0 = 0 from rfl, Int.add_zero, if_neg c2]) ?_
          refine j_goto hF 41 dX1_digest_37 (by decide) ?_
          refine j_istore_n hF [(0, .ref h1), (1, iv (csum (dgM st) j + (if st 0 (j : Int) = 0 then 0 else 1000 * ((j : Int) + 1) * (st 1 (j : Int) + 1)) + csum (dgJ st j) 0)), (2, iv (j : Int))] dX1_digest_41 rfl (by decide) [1, 0, 2] rfl ?_
          refine j_iconst hF dX1_digest_42 ?_
          refine j_istore_n hF [(0, .ref h1), (1, iv (csum (dgM st) j + (if st 0 (j : Int) = 0 then 0 else 1000 * ((j : Int) + 1) * (st 1 (j : Int) + 1)) + csum (dgJ st j) 0)), (2, iv (j : Int)), (3, iv 0)] dX1_digest_43 rfl (by decide) [1, 2, 3, 0] rfl ?_
          exact loop2 5 0 (by omega) (by omega)
  refine j_iconst hF dX1_digest_0 ?_
  refine j_istore_n hF [(0, .ref h1), (1, iv 0)] dX1_digest_1 rfl (by decide) [1, 0] rfl ?_
  refine j_iconst hF dX1_digest_2 ?_
  refine j_istore_n hF [(0, .ref h1), (1, iv 0), (2, iv 0)] dX1_digest_3 rfl (by decide) [1, 2, 0] rfl ?_
  exact loop 7 0 (by omega) (by omega)
end
section
/-! THE TWO CLASSES SIDE BY SIDE: what the table of nodes st holds is what the model pm holds -/
def sameF (st : PS) (n : Int) (pm : PS) (g : Int) : Prop := (n = -1 ∧ pm 0 g = 0) ∨ (n ≠ -1 ∧ pm 0 g = 1 ∧ pm 1 g = st 2 n ∧ ∀ i : Int, 0 ≤ i → i < st 2 n → pm 2 (4 * g + i) = st 0 (st 3 (n * 4 + i)))
def Rel (st pm : PS) : Prop := ∀ f : Int, 0 ≤ f → f < 6 → sameF st (st 10 f) pm f ∧ sameF st (st 11 f) pm (6 + f) ∧ pm 3 f = st 12 f
def LInv (N : Int) (st pm : PS) : Prop := (∃ c : Nat, InvC N c st) ∧ InvM pm ∧ Rel st pm
theorem sameF_fr {st u : PS} {n g : Int} {pm : PS} (h0 : u 0 = st 0) (h2 : u 2 = st 2) (h3 : u 3 = st 3) : sameF u n pm g = sameF st n pm g := by simp only [sameF, h0, h2, h3]
theorem sameF.mf {st pm v : PS} {n g g' : Int} (h : sameF st n pm g) (hm : mf v g' pm g) (hn : n = -1 ∨ st 2 n ≤ 4) : sameF st n v g' := by
  obtain ⟨m0, m1, m2⟩ := hm
  rcases h with ⟨h1, h2⟩ | ⟨h1, h2, h3, h4⟩
  · exact Or.inl ⟨h1, by rw [m0]; exact h2⟩
  · exact Or.inr ⟨h1, by rw [m0]; exact h2, by rw [m1]; exact h3, fun i i0 i1 => by rw [m2 i i0 (by omega)]; exact h4 i i0 i1⟩
theorem sameF.ag {st u pm : PS} {n g : Int} (h : sameF st n pm g) (ha : n = -1 ∨ (u 2 n = st 2 n ∧ ∀ i : Int, 0 ≤ i → i < st 2 n → u 0 (u 3 (n * 4 + i)) = st 0 (st 3 (n * 4 + i)))) : sameF u n pm g := by
  rcases h with h | ⟨h1, h2, h3, h4⟩
  · exact Or.inl h
  · obtain ⟨a1, a2⟩ := ha.resolve_left h1
    refine Or.inr ⟨h1, h2, by rw [a1]; exact h3, fun i i0 i1 => ?_⟩
    rw [a1] at i1
    rw [a2 i i0 i1]; exact h4 i i0 i1
theorem okM.le {st : PS} {n : Int} (h : okM st n) : n = -1 ∨ st 2 n ≤ 4 := h.imp id (fun h => h.2.2.2.1)
theorem sameF.pos {st pm : PS} {n g : Int} (h : sameF st n pm g) (hn : n ≠ -1) : pm 0 g = 1 ∧ pm 1 g = st 2 n ∧ ∀ i : Int, 0 ≤ i → i < st 2 n → pm 2 (4 * g + i) = st 0 (st 3 (n * 4 + i)) := by
  rcases h with h | h
  · exact absurd h.1 hn
  · exact h.2
theorem sameF.iff {st pm : PS} {n g : Int} (h : sameF st n pm g) : n = -1 ↔ pm 0 g = 0 := by
  rcases h with ⟨h1, h2⟩ | ⟨h1, h2, -⟩
  · exact ⟨fun _ => h2, fun _ => h1⟩
  · exact ⟨fun e => absurd e h1, fun e => by omega⟩
section
variable {N : Int} {c : Nat} {st u pm v : PS} {f n a a' : Int}
/-- f has a new node -/
theorem rel_rp {sz : Int} {w : Int → Int} (hI : InvC N c st) (hR : Rel st pm) (f0 : 0 ≤ f) (f1 : f < 6) (h : rpP st f n sz w u) (v0 : v 0 f = 1) (v1 : v 1 f = sz) (v2 : ∀ k : Int, 0 ≤ k → k < sz → v 2 (4 * f + k) = w k) (vo : ∀ g : Int, g ≠ f → mf v g pm g) : ∀ g : Int, 0 ≤ g → g < 6 → sameF u (u 10 g) v g ∧ sameF u (u 11 g) v (6 + g) := by
  intro g g0 g1
  obtain ⟨q, o, e2, ew⟩ := h
  obtain ⟨n1, n2, n3⟩ := nnQ_ne hI q
  obtain ⟨o1, o2, o3⟩ := hI.1 g g0 g1
  obtain ⟨m1, m2, m3⟩ := n1 g g0 g1
  obtain ⟨r1, r2, r3⟩ := hR g g0 g1
  have hag : ∀ m : Int, okM st m → m ≠ n → (∀ b : Int, inN st m b → Pr st f b) → (m = -1 ∨ (u 2 m = st 2 m ∧ ∀ i : Int, 0 ≤ i → i < st 2 m → u 0 (u 3 (m * 4 + i)) = st 0 (st 3 (m * 4 + i)))) := fun m hm hne hp => by
    by_cases h1 : m = -1
    · exact Or.inl h1
    · refine Or.inr ⟨(q.2.2.2.2.2.2.1 m hne).2, fun i i0 i1 => ?_⟩
      have h4 := (hm.le).resolve_left h1
      rw [(nnQ_ag hI q hm hne).2.2 i i0 (by omega)]
      exact (q.2.2.2.2.2.2.2.2 _ (hp _ ⟨h1, Or.inr ⟨i, i0, i1, rfl⟩⟩)).2
  constructor
  · rw [q.2.2.2.2.2.1]
    show sameF u (if g = f then n else st 10 g) v g
    by_cases hg : g = f
    · rw [if_pos hg, hg]
      refine Or.inr ⟨by have := q.1.1; omega, v0, by rw [v1, e2], fun i i0 i1 => ?_⟩
      rw [e2] at i1
      rw [v2 i i0 i1, ew i i0 i1]
    · rw [if_neg hg]
      exact (r1.mf (vo g hg) o1.le).ag (hag _ o1 m1 (fun b hb => Or.inl ⟨g, g0, g1, Or.inl ⟨hg, hb⟩⟩))
  · rw [q.2.2.1 11 (by decide)]
    exact (r2.mf (vo _ (by omega)) o2.le).ag (hag _ o2 m2 (fun b hb => Or.inl ⟨g, g0, g1, Or.inr (Or.inl hb)⟩))
theorem InvC_gen (hI : InvC N c st) (h : fr [10, 11, 12, 13, 14] st u) (h14 : u 14 0 = st 14 0 ∧ u 14 1 = st 14 1 ∧ u 14 2 = st 14 2 ∧ u 14 3 = st 14 3) (h10 : ∀ g : Int, 0 ≤ g → g < 6 → okM st (u 10 g) ∧ u 10 g ≠ st 14 0) (h11 : ∀ g : Int, 0 ≤ g → g < 6 → u 11 g = st 11 g) (h12 : ∀ g : Int, 0 ≤ g → g < 6 → u 12 g = 0 ∨ u 12 g = 1) : InvC N c u := by
  obtain ⟨iA, iB, iC, iD, iE, iF, iG, iH, iI, iK, iL, iY⟩ := hI
  obtain ⟨e0, e1, e2, e3⟩ := h14
  have ec : ∀ i : Nat, chn u i = chn st i := chn_fr (h 5 (by decide)) (h 9 (by decide)) e2
  have ep : ∀ f : Int, pk u f = pk st f := pk_fr (h 8 (by decide)) e2
  have eo : ∀ x : Int, okM u x = okM st x := fun x => okM_fr (h 2 (by decide)) (h 3 (by decide))
  have epar : par u = par st := by rw [par, par, e2]
  refine ⟨fun g g0 g1 => ?_, by rw [e0]; exact iB, by rw [e1]; exact iC, by rw [e2]; exact iD, by rw [e3]; exact iE, fun i hi => ?_, by rw [ec, e0]; exact iG, by rw [e0, h 4 (by decide)]; exact iH, fun g g0 g1 => ?_, fun g g0 g1 => ?_, ?_, h12⟩
  · rw [eo, eo, eo, ep, h11 g g0 g1]; exact ⟨(h10 g g0 g1).1, (iA g g0 g1).2.1, (iA g g0 g1).2.2⟩
  · rw [ec, e0, e2, h 4 (by decide), h 1 (by decide)]; exact iF i hi
  · rw [h11 g g0 g1, rl_fr ec ep c (fun i hi => by rw [h 1 (by decide)]) g c (Nat.le_refl c)]; exact iI g g0 g1
  · rw [e0, ep, h11 g g0 g1]; exact ⟨(h10 g g0 g1).2, (iK g g0 g1).2.1, (iK g g0 g1).2.2⟩
  · rw [epar, e2, h 6 (by decide), h 7 (by decide)]; exact iL
theorem InvM_mf (hM : InvM pm) (h : ∀ g : Int, 0 ≤ g → g < 12 → ∃ k : Int, 0 ≤ k ∧ k < 12 ∧ mf v g pm k) (h3 : ∀ f : Int, 0 ≤ f → f < 6 → v 3 f = 0 ∨ v 3 f = 1) : InvM v := by
  refine ⟨fun g g0 g1 => ?_, h3⟩
  obtain ⟨k, k0, k1, m0, m1, -⟩ := h g g0 g1
  rw [m0, m1]; exact hM.1 k k0 k1
theorem LInv.up (h : LInv N st pm) : LInv (N + 1) st pm := by
  obtain ⟨⟨c, hI⟩, h2⟩ := h
  exact ⟨⟨c, hI.mono (by omega)⟩, h2⟩
theorem rel_pos (h : LInv N st pm) (f0 : 0 ≤ f) (f1 : f < 6) : (st 10 f = -1 ↔ pm 0 f = 0) ∧ (st 10 f ≠ -1 → pm 0 f = 1 ∧ pm 1 f = st 2 (st 10 f)) := by
  have r := (h.2.2 f f0 f1).1
  exact ⟨r.iff, fun hn => ⟨(r.pos hn).1, (r.pos hn).2.1⟩⟩
theorem join_create (h : LInv N st pm) (hx : xCreate st f a u) (hm : mCreate pm f a' v) : a = a' ∧ LInv (N + 1) u v := by
  have h0 := h
  obtain ⟨⟨c, hI⟩, hM, hR⟩ := h
  rcases hx with ⟨x1, rfl, rfl⟩ | ⟨x1, x2, rfl, rfl⟩ | ⟨x1, x2, rfl, n, u', x3, rfl⟩ <;> rcases hm with ⟨m1, rfl, rfl⟩ | ⟨m1, m2, rfl, rfl⟩ | ⟨m1, m2, rfl, rfl⟩ <;> first | exact absurd m1 x1 | exact absurd x1 m1 | exact ⟨rfl, h0.up⟩ | exact absurd ((rel_pos h0 x1.1 x1.2).1.mpr m2) x2 | exact absurd ((rel_pos h0 x1.1 x1.2).1.mp x2) m2 | skip
  refine ⟨rfl, ?_⟩
  obtain ⟨f0, f1⟩ := x1
  have iu := nnQ_inv hI x3.1 x3.2.1
  have y12 : ∀ g : Int, 0 ≤ g → g < 6 → sw u' 12 f 1 12 g = 0 ∨ sw u' 12 f 1 12 g = 1 := fun g g0 g1 => by
    by_cases hg : g = f
    · rw [hg, sw_eq]; exact Or.inr rfl
    · rw [sw_na hg]; exact iu.2.2.2.2.2.2.2.2.2.2.2 g g0 g1
  have e14 : sw u' 12 f 1 14 = u' 14 := sw_ne (by decide)
  have hI2 : InvC N c (sw u' 12 f 1) := InvC_gen iu (fr.rf.sw (by decide)) (by rw [e14]; exact ⟨rfl, rfl, rfl, rfl⟩) (fun g g0 g1 => by rw [sw_ne (by decide)]; exact ⟨(iu.1 g g0 g1).1, (iu.2.2.2.2.2.2.2.2.2.1 g g0 g1).1⟩) (fun g _ _ => by rw [sw_ne (by decide)]) y12
  have vo : ∀ g : Int, g ≠ f → mf (sw (sw (sw pm 0 f 1) 1 f 0) 3 f 1) g pm g := fun g hg => ⟨by rw [sw_na hg, sw_na hg, sw_na hg], by rw [sw_na hg, sw_na hg, sw_na hg], fun j _ _ => by rw [sw_ne (by decide), sw_ne (by decide), sw_ne (by decide)]⟩
  have rr := rel_rp hI hR f0 f1 x3 (v := sw (sw (sw pm 0 f 1) 1 f 0) 3 f 1) (by rw [sw_ne (by decide), sw_ne (by decide), sw_eq]) (by rw [sw_ne (by decide), sw_eq]) (fun k k0 k1 => by omega) vo
  have e3 : ∀ g : Int, sw (sw (sw pm 0 f 1) 1 f 0) 3 f 1 3 g = if g = f then 1 else pm 3 g := fun g => by
    by_cases hg : g = f
    · rw [if_pos hg, hg, sw_eq]
    · rw [if_neg hg, sw_na hg, sw_na hg, sw_na hg]
  have e12 : ∀ g : Int, sw u' 12 f 1 12 g = if g = f then 1 else st 12 g := fun g => by
    by_cases hg : g = f
    · rw [if_pos hg, hg, sw_eq]
    · rw [if_neg hg, sw_na hg, x3.1.2.2.1 12 (by decide)]
  refine ⟨⟨c, hI2.mono (by omega)⟩, ⟨fun g g0 g1 => ?_, fun g g0 g1 => ?_⟩, fun g g0 g1 => ?_⟩
  · by_cases hg : g = f
    · subst hg
      rw [sw_ne (by decide), sw_ne (by decide), sw_eq, sw_ne (by decide), sw_eq]; exact ⟨Or.inr rfl, by decide, by decide⟩
    · rw [(vo g hg).1, (vo g hg).2.1]; exact hM.1 g g0 g1
  · rw [e3]
    by_cases hg : g = f
    · rw [if_pos hg]; exact Or.inr rfl
    · rw [if_neg hg]; exact hM.2 g g0 g1
  · rw [sameF_fr (sw_ne (by decide)) (sw_ne (by decide)) (sw_ne (by decide)), sameF_fr (sw_ne (by decide)) (sw_ne (by decide)) (sw_ne (by decide)), sw_ne (by decide), sw_ne (by decide), e3, e12]
    refine ⟨(rr g g0 g1).1, (rr g g0 g1).2, ?_⟩
    by_cases hg : g = f
    · rw [if_pos hg, if_pos hg]
    · rw [if_neg hg, if_neg hg]; exact (hR g g0 g1).2.2
theorem join_remove (h : LInv N st pm) (hx : xRemove st f a u) (hm : mRemove pm f a' v) : a = a' ∧ LInv (N + 1) u v := by
  have h0 := h
  obtain ⟨⟨c, hI⟩, hM, hR⟩ := h
  rcases hx with ⟨x1, rfl, rfl⟩ | ⟨x1, x2, rfl, rfl⟩ | ⟨x1, x2, rfl, rfl⟩ <;> rcases hm with ⟨m1, rfl, rfl⟩ | ⟨m1, m2, rfl, rfl⟩ | ⟨m1, m2, rfl, rfl⟩ <;> first | exact absurd m1 x1 | exact absurd x1 m1 | exact ⟨rfl, h0.up⟩ | exact absurd ((rel_pos h0 x1.1 x1.2).1.mpr m2) x2 | exact absurd ((rel_pos h0 x1.1 x1.2).1.mp x2) m2 | skip
  obtain ⟨f0, f1⟩ := x1
  refine ⟨((rel_pos h0 f0 f1).2 x2).2.symm, ?_⟩
  have e10 : ∀ g : Int, sw (sw st 10 f (-1)) 12 f 0 10 g = if g = f then -1 else st 10 g := fun g => by
    by_cases hg : g = f
    · rw [if_pos hg, hg, sw_ne (by decide), sw_eq]
    · rw [if_neg hg, sw_na hg, sw_na hg]
  have e12 : ∀ g : Int, sw (sw st 10 f (-1)) 12 f 0 12 g = if g = f then 0 else st 12 g := fun g => by
    by_cases hg : g = f
    · rw [if_pos hg, hg, sw_eq]
    · rw [if_neg hg, sw_na hg, sw_na hg]
  have e14 : sw (sw st 10 f (-1)) 12 f 0 14 = st 14 := by rw [sw_ne (by decide), sw_ne (by decide)]
  have e3 : ∀ g : Int, sw (sw pm 0 f 0) 3 f 0 3 g = if g = f then 0 else pm 3 g := fun g => by
    by_cases hg : g = f
    · rw [if_pos hg, hg, sw_eq]
    · rw [if_neg hg, sw_na hg, sw_na hg]
  have vo : ∀ g : Int, g ≠ f → mf (sw (sw pm 0 f 0) 3 f 0) g pm g := fun g hg => ⟨by rw [sw_na hg, sw_na hg], by rw [sw_na hg, sw_na hg], fun j _ _ => by rw [sw_ne (by decide), sw_ne (by decide)]⟩
  have v0 : sw (sw pm 0 f 0) 3 f 0 0 f = 0 := by rw [sw_ne (by decide), sw_eq]
  have hI2 : InvC N c (sw (sw st 10 f (-1)) 12 f 0) := by
    refine InvC_gen hI ((fr.rf.sw (by decide)).sw (by decide)) (by rw [e14]; exact ⟨rfl, rfl, rfl, rfl⟩) (fun g g0 g1 => ?_) (fun g _ _ => by rw [sw_ne (by decide), sw_ne (by decide)]) (fun g g0 g1 => ?_)
    · rw [e10]
      by_cases hg : g = f
      · rw [if_pos hg]; exact ⟨Or.inl rfl, by have := hI.2.1; omega⟩
      · rw [if_neg hg]; exact ⟨(hI.1 g g0 g1).1, (hI.2.2.2.2.2.2.2.2.2.1 g g0 g1).1⟩
    · rw [e12]
      by_cases hg : g = f
      · rw [if_pos hg]; exact Or.inl rfl
      · rw [if_neg hg]; exact hI.2.2.2.2.2.2.2.2.2.2.2 g g0 g1
  refine ⟨⟨c, hI2.mono (by omega)⟩, ⟨fun g g0 g1 => ?_, fun g g0 g1 => ?_⟩, fun g g0 g1 => ?_⟩
  · by_cases hg : g = f
    · rw [hg, v0, sw_ne (by decide), sw_ne (by decide)]; exact ⟨Or.inl rfl, (hM.1 f f0 (by omega)).2⟩
    · rw [(vo g hg).1, (vo g hg).2.1]; exact hM.1 g g0 g1
  · rw [e3]
    by_cases hg : g = f
    · rw [if_pos hg]; exact Or.inl rfl
    · rw [if_neg hg]; exact hM.2 g g0 g1
  · obtain ⟨r1, r2, r3⟩ := hR g g0 g1
    have es : ∀ x k : Int, sameF (sw (sw st 10 f (-1)) 12 f 0) x (sw (sw pm 0 f 0) 3 f 0) k = sameF st x (sw (sw pm 0 f 0) 3 f 0) k := fun x k => sameF_fr (by rw [sw_ne (by decide), sw_ne (by decide)]) (by rw [sw_ne (by decide), sw_ne (by decide)]) (by rw [sw_ne (by decide), sw_ne (by decide)])
    rw [es, es, e10, e3, e12, show sw (sw st 10 f (-1)) 12 f 0 11 = st 11 by rw [sw_ne (by decide), sw_ne (by decide)]]
    refine ⟨?_, r2.mf (vo _ (by omega)) (hI.1 g g0 g1).2.1.le, ?_⟩
    · by_cases hg : g = f
      · rw [if_pos hg, hg]; exact Or.inl ⟨rfl, v0⟩
      · rw [if_neg hg]; exact r1.mf (vo g hg) (hI.1 g g0 g1).1.le
    · by_cases hg : g = f
      · rw [if_pos hg, if_pos hg]
      · rw [if_neg hg, if_neg hg]; exact r3
/-- the common end of write, truncate, copy -/
theorem join_rp {sz : Int} {w : Int → Int} (h : LInv N st pm) (f0 : 0 ≤ f) (f1 : f < 6) (hx : rpP st f n sz w u) (v0 : v 0 f = 1) (v1 : v 1 f = sz) (v2 : ∀ k : Int, 0 ≤ k → k < sz → v 2 (4 * f + k) = w k) (vo : ∀ g : Int, g ≠ f → mf v g pm g) (v3 : v 3 = pm 3) : LInv (N + 1) u v := by
  obtain ⟨⟨c, hI⟩, hM, hR⟩ := h
  have iu := nnQ_inv hI hx.1 hx.2.1
  have rr := rel_rp hI hR f0 f1 hx v0 v1 v2 vo
  refine ⟨⟨c, iu.mono (by omega)⟩, ⟨fun g g0 g1 => ?_, fun g g0 g1 => by rw [v3]; exact hM.2 g g0 g1⟩, fun g g0 g1 => ⟨(rr g g0 g1).1, (rr g g0 g1).2, ?_⟩⟩
  · by_cases hg : g = f
    · subst hg
      have e := hx.2.2.1
      have o := hx.2.1
      rw [v0, v1]; exact ⟨Or.inr rfl, by have := o.2.2.1; omega, by have := o.2.2.2.1; omega⟩
    · rw [(vo g hg).1, (vo g hg).2.1]; exact hM.1 g g0 g1
  · rw [v3, hx.1.2.2.1 12 (by decide)]; exact (hR g g0 g1).2.2
theorem join_write {i w : Int} (h : LInv N st pm) (hx : xWrite st f i w a u) (hm : mWrite pm f i w a' v) : a = a' ∧ LInv (N + 1) u v := by
  have h0 := h
  obtain ⟨⟨c, hI⟩, hM, hR⟩ := h
  rcases hx with ⟨x1, rfl, rfl⟩ | ⟨x1, x2, rfl, rfl⟩ | ⟨x1, x2, x3, rfl, rfl⟩ | ⟨x1, x2, x3, x4, n, x5⟩ <;> rcases hm with ⟨m1, rfl, rfl⟩ | ⟨m1, m2, rfl, rfl⟩ | ⟨m1, m2, m3, rfl, rfl⟩ | ⟨m1, m2, m3, m4, m5⟩ <;> first | exact absurd m1 x1 | exact absurd x1 m1 | exact ⟨rfl, h0.up⟩ | exact absurd ((rel_pos h0 x1.1 x1.2).1.mpr m2) x2 | exact absurd ((rel_pos h0 x1.1 x1.2).1.mp x2) m2 | (exfalso; rw [((rel_pos h0 x1.1 x1.2).2 x2).2] at m3; first | exact x3 m3 | exact m3 x3) | skip
  obtain ⟨f0, f1⟩ := x1
  obtain ⟨p0, p1, p2⟩ := (hR f f0 f1).1.pos x2
  have ea : a = a' := by rw [x4, m4, p1]
  subst ea
  refine ⟨rfl, ?_⟩
  have i4 : 0 ≤ i ∧ i < 4 := by have := (hM.1 f f0 (by omega)).2; omega
  subst m5
  refine join_rp h0 f0 f1 x5 (by rw [sw_ne (by decide), sw_ne (by decide)]; exact p0) (by rw [sw_eq]) (fun k k0 k1 => ?_) (fun g hg => ⟨by rw [sw_ne (by decide), sw_ne (by decide)], by rw [sw_na hg, sw_ne (by decide)], fun j j0 j1 => ?_⟩) (by rw [sw_ne (by decide), sw_ne (by decide)])
  · rw [sw_ne (by decide)]
    show _ = if k = i then w else st 0 (st 3 (st 10 f * 4 + k))
    by_cases hk : k = i
    · rw [if_pos hk, hk, sw_eq]
    · rw [if_neg hk, sw_na (by omega)]
      refine p2 k k0 ?_
      rw [x4] at k1
      by_cases hi : i = st 2 (st 10 f)
      · rw [if_pos hi] at k1; omega
      · rw [if_neg hi] at k1; exact k1
  · rw [sw_ne (by decide), sw_na (by omega)]
theorem join_truncate {m : Int} (h : LInv N st pm) (hx : xTruncate st f m a u) (hm : mTruncate pm f m a' v) : a = a' ∧ LInv (N + 1) u v := by
  have h0 := h
  obtain ⟨⟨c, hI⟩, hM, hR⟩ := h
  rcases hx with ⟨x1, rfl, rfl⟩ | ⟨x1, x2, rfl, rfl⟩ | ⟨x1, x2, x3, rfl, rfl⟩ | ⟨x1, x2, x3, x4, n, x5⟩ <;> rcases hm with ⟨m1, rfl, rfl⟩ | ⟨m1, m2, rfl, rfl⟩ | ⟨m1, m2, m3, rfl, rfl⟩ | ⟨m1, m2, m3, m4, m5⟩ <;> first | exact absurd m1 x1 | exact absurd x1 m1 | exact ⟨rfl, h0.up⟩ | exact absurd ((rel_pos h0 x1.1 x1.2).1.mpr m2) x2 | exact absurd ((rel_pos h0 x1.1 x1.2).1.mp x2) m2 | (exfalso; rw [((rel_pos h0 x1.1 x1.2).2 x2).2] at m3; first | exact x3 m3 | exact m3 x3) | skip
  obtain ⟨f0, f1⟩ := x1
  obtain ⟨p0, p1, p2⟩ := (hR f f0 f1).1.pos x2
  refine ⟨by rw [x4, m4, p1], ?_⟩
  subst m5
  refine join_rp h0 f0 f1 x5 (by rw [sw_ne (by decide)]; exact p0) (by rw [sw_eq]) (fun k k0 k1 => ?_) (fun g hg => ⟨by rw [sw_ne (by decide)], by rw [sw_na hg], fun j j0 j1 => by rw [sw_ne (by decide)]⟩) (by rw [sw_ne (by decide)])
  rw [sw_ne (by decide)]
  exact p2 k k0 (by omega)
theorem join_copy {g : Int} (h : LInv N st pm) (hx : xCopy st f g a u) (hm : mCopy pm f g a' v) : a = a' ∧ LInv (N + 1) u v := by
  have h0 := h
  obtain ⟨⟨c, hI⟩, hM, hR⟩ := h
  have key : (fOk f ∧ fOk g) → ((st 10 f = -1 ∨ st 10 g = -1) ↔ (pm 0 f = 0 ∨ pm 0 g = 0)) := fun x1 => by
    rw [(rel_pos h0 x1.1.1 x1.1.2).1, (rel_pos h0 x1.2.1 x1.2.2).1]
  rcases hx with ⟨x1, rfl, rfl⟩ | ⟨x1, x2, rfl, rfl⟩ | ⟨x1, x2, x3, x4, x5⟩ | ⟨x1, x2, x3, x4, n, x5⟩ <;> rcases hm with ⟨m1, rfl, rfl⟩ | ⟨m1, m2, rfl, rfl⟩ | ⟨m1, m2, m4, m5⟩ <;> first | exact absurd m1 x1 | exact absurd x1 m1 | exact ⟨rfl, h0.up⟩ | exact absurd ((key x1).mpr m2) x2 | exact absurd ((key x1).mp x2) m2 | skip
  · obtain ⟨⟨f0, f1⟩, -⟩ := x1
    subst x3
    subst x5
    obtain ⟨p0, p1, p2⟩ := (hR f f0 f1).1.pos (fun e => x2 (Or.inl e))
    refine ⟨by rw [x4, m4, p1], ⟨c, hI.mono (by omega)⟩, ?_, fun k k0 k1 => ?_⟩
    · refine InvM_mf hM (fun k k0 k1 => ⟨k, k0, k1, ?_⟩) (fun k k0 k1 => by rw [m5.1 3 (by decide)]; exact hM.2 k k0 k1)
      by_cases hk : k = f
      · rw [hk]; exact m5.eq rfl
      · exact m5.ne hk
    · obtain ⟨r1, r2, r3⟩ := hR k k0 k1
      refine ⟨r1.mf ?_ (hI.1 k k0 k1).1.le, r2.mf (m5.ne (by omega)) (hI.1 k k0 k1).2.1.le, by rw [m5.1 3 (by decide)]; exact r3⟩
      by_cases hk : k = f
      · rw [hk]; exact m5.eq rfl
      · exact m5.ne hk
  · obtain ⟨⟨f0, f1⟩, ⟨g0, g1⟩⟩ := x1
    obtain ⟨p0, p1, p2⟩ := (hR g g0 g1).1.pos (fun e => x2 (Or.inr e))
    obtain ⟨q0, q1, q2⟩ := (hR f f0 f1).1.pos (fun e => x2 (Or.inl e))
    refine ⟨by rw [x4, m4, p1], ?_⟩
    have h4 := (hI.1 g g0 g1).1.le.resolve_left (fun e => x2 (Or.inr e))
    refine join_rp h0 f0 f1 x5 (by rw [m5.1 0 (by decide)]; exact q0) (by rw [m5.2.1]; exact (if_pos rfl).trans p1) (fun k k0 k1 => ?_) (fun k hk => m5.ne hk) (m5.1 3 (by decide))
    rw [m5.2.2.1 k k0 (by omega)]
    exact p2 k k0 k1
theorem cnt_eq (h : Rel u v) : cntX u = cntM v := by
  refine csum_congr (fun f f0 f1 => ?_)
  have r := (h f f0 (by omega)).1.iff
  by_cases e : u 10 f = -1
  · rw [if_pos e, if_pos (r.mp e)]
  · rw [if_neg e, if_neg (fun z => e (r.mpr z))]
theorem join_cp (h : LInv N st pm) (hx : cpP st u) (hm : msP pm v) : LInv (N + 1) u v := by
  obtain ⟨⟨c, hI⟩, hM, hR⟩ := h
  obtain ⟨x1, x2, x3⟩ := hx
  refine ⟨⟨0, x2.mono (by have := hI.2.2.2.1; omega)⟩, ?_, fun g g0 g1 => ?_⟩
  · refine InvM_mf hM (fun g g0 g1 => ?_) (fun g g0 g1 => Or.inl (hm g g0 g1).2.2)
    by_cases hg : g < 6
    · exact ⟨g, g0, g1, (hm g g0 hg).1⟩
    · have := (hm (g - 6) (by omega) (by omega)).2.1
      rw [show 6 + (g - 6) = g by omega] at this
      exact ⟨g - 6, by omega, by omega, this⟩
  · obtain ⟨r1, r2, r3⟩ := hR g g0 g1
    obtain ⟨m1, m2, m3⟩ := hm g g0 g1
    rw [sameF_fr (x1 0 (by decide)) (x1 2 (by decide)) (x1 3 (by decide)), sameF_fr (x1 0 (by decide)) (x1 2 (by decide)) (x1 3 (by decide)), x1 10 (by decide), (x3 g g0 g1).1, (x3 g g0 g1).2, m3]
    exact ⟨r1.mf m1 (hI.1 g g0 g1).1.le, r1.mf m2 (hI.1 g g0 g1).1.le, rfl⟩
theorem join_sync (h : LInv N st pm) (hx : xSync st a u) (hm : mSync pm a' v) : a = a' ∧ LInv (N + 1) u v := by
  have j := join_cp h hx.1 hm.1
  exact ⟨by rw [hx.2, hm.2, cnt_eq j.2.2], j⟩
theorem join_crash (h : LInv N st pm) (hx : xCrash st a u) (hm : mCrash pm a' v) : a = a' ∧ LInv (N + 1) u v := by
  obtain ⟨⟨c, hI⟩, hM, hR⟩ := h
  obtain ⟨⟨x1, x2, x3⟩, x4⟩ := hx
  obtain ⟨m1, m4⟩ := hm
  have iK := hI.2.2.2.2.2.2.2.2.2.1
  have j : LInv (N + 1) u v := by
    refine ⟨⟨c, (InvC_gen hI (fun k hk => ?_) x2 (fun g g0 g1 => ?_) (fun g g0 g1 => (x3 g g0 g1).2.1) (fun g g0 g1 => Or.inl (x3 g g0 g1).2.2)).mono (by omega)⟩, ?_, fun g g0 g1 => ?_⟩
    · simp only [List.mem_cons, List.not_mem_nil, or_false, not_or] at hk
      exact x1 k (by simp [hk])
    · rw [(x3 g g0 g1).1]; exact ⟨(hI.1 g g0 g1).2.1, (iK g g0 g1).2.1⟩
    · refine InvM_mf hM (fun g g0 g1 => ?_) (fun g g0 g1 => Or.inl (m1 g g0 g1).2.2)
      by_cases hg : g < 6
      · exact ⟨6 + g, by omega, by omega, (m1 g g0 hg).1⟩
      · have := (m1 (g - 6) (by omega) (by omega)).2.1
        rw [show 6 + (g - 6) = g by omega] at this
        exact ⟨g, by omega, by omega, this⟩
    · obtain ⟨r1, r2, r3⟩ := hR g g0 g1
      obtain ⟨k1, k2, k3⟩ := m1 g g0 g1
      rw [sameF_fr (x1 0 (by decide)) (x1 2 (by decide)) (x1 3 (by decide)), sameF_fr (x1 0 (by decide)) (x1 2 (by decide)) (x1 3 (by decide)), (x3 g g0 g1).1, (x3 g g0 g1).2.1, (x3 g g0 g1).2.2, k3]
      exact ⟨r2.mf k1 (hI.1 g g0 g1).2.1.le, r2.mf k2 (hI.1 g g0 g1).2.1.le, rfl⟩
  exact ⟨by rw [x4, m4, cnt_eq j.2.2], j⟩
theorem rel_fs {N' : Int} {c2 : Nat} {s : PS} (hs : InvC N' c s) (hM : InvM pm) (hR : Rel s pm) (f0 : 0 ≤ f) (f1 : f < 6) (ho : s 10 f ≠ -1) (hx : fsP (N + 1) c2 s f u) (hm : ccP (sw pm 0 (6 + f) 1) f (6 + f) v) : LInv (N + 1) u v := by
  obtain ⟨x1, x2, x3, x4, x5, x6, x7, x8, x9⟩ := hx
  have iK := hs.2.2.2.2.2.2.2.2.2.1
  obtain ⟨p0, p1, p2⟩ := (hR f f0 f1).1.pos ho
  have h4 := (hs.1 f f0 f1).1.le.resolve_left ho
  have hsw : ∀ g : Int, g ≠ 6 + f → mf (sw pm 0 (6 + f) 1) g pm g := fun g hg => ⟨by rw [sw_na hg], by rw [sw_ne (by decide)], fun j _ _ => by rw [sw_ne (by decide)]⟩
  have vo : ∀ g : Int, g ≠ 6 + f → mf v g pm g := fun g hg => (hm.ne hg).tr (hsw g hg)
  have vf : mf v (6 + f) pm f := (hm.eq (by rw [sw_eq, sw_na (by omega), p0])).tr (hsw f (by omega))
  have v3 : v 3 = pm 3 := by rw [hm.1 3 (by decide), sw_ne (by decide)]
  have hag : ∀ m : Int, okM s m → m ≠ s 14 0 → (m = -1 ∨ (u 2 m = s 2 m ∧ ∀ i : Int, 0 ≤ i → i < s 2 m → u 0 (u 3 (m * 4 + i)) = s 0 (s 3 (m * 4 + i)))) := fun m hm hne => by
    by_cases h1 : m = -1
    · exact Or.inl h1
    · refine Or.inr ⟨x6 m hne, fun i i0 i1 => ?_⟩
      have h4 := (hm.le).resolve_left h1
      rw [x7 _ (by omega), x2]
  have hnew : ∀ (w : PS) (g : Int), mf w g pm f → sameF u (s 14 0) w g := fun w g hw => by
    refine Or.inr ⟨by have := hs.2.1; omega, by rw [hw.1]; exact p0, by rw [hw.2.1, p1, x8], fun i i0 i1 => ?_⟩
    rw [x8] at i1
    rw [hw.2.2 i i0 (by omega), p2 i i0 i1, x9 i i0 (by omega), x2]
  refine ⟨⟨c2 + 1, x1⟩, ?_, fun g g0 g1 => ?_⟩
  · refine InvM_mf hM (fun g g0 g1 => ?_) (fun g g0 g1 => by rw [v3]; exact hM.2 g g0 g1)
    by_cases hg : g = 6 + f
    · exact ⟨f, by omega, by omega, by rw [hg]; exact vf⟩
    · exact ⟨g, g0, g1, vo g hg⟩
  · obtain ⟨r1, r2, r3⟩ := hR g g0 g1
    obtain ⟨n1, n2, n3⟩ := iK g g0 g1
    obtain ⟨o1, o2, o3⟩ := hs.1 g g0 g1
    rw [v3, x3]
    by_cases hg : g = f
    · subst hg
      rw [x5.1, x5.2]
      exact ⟨hnew v g (vo g (by omega)), hnew v (6 + g) vf, r3⟩
    · rw [(x4 g hg).1, (x4 g hg).2]
      exact ⟨(r1.mf (vo g (by omega)) o1.le).ag (hag _ o1 n1), (r2.mf (vo _ (by omega)) o2.le).ag (hag _ o2 n2), r3⟩
theorem join_fsync (h : LInv N st pm) (hx : xFsync N st f a u) (hm : mFsync pm f a' v) : a = a' ∧ LInv (N + 1) u v := by
  have h0 := h
  obtain ⟨⟨c, hI⟩, hM, hR⟩ := h
  rcases hx with ⟨x1, rfl, rfl⟩ | ⟨x1, x2, rfl, rfl⟩ | ⟨x1, x2, x3, rfl, x4⟩ | ⟨x1, x2, x3, rfl, c', s, x4, x5⟩ <;> rcases hm with ⟨m1, rfl, rfl⟩ | ⟨m1, m2, rfl, rfl⟩ | ⟨m1, m2, m3, rfl, m4⟩ | ⟨m1, m2, m3, rfl, m4⟩ <;> first | exact absurd m1 x1 | exact absurd x1 m1 | exact ⟨rfl, h0.up⟩ | exact absurd ((rel_pos h0 x1.1 x1.2).1.mpr m2) x2 | exact absurd ((rel_pos h0 x1.1 x1.2).1.mp x2) m2 | (exfalso; rw [(hR f x1.1 x1.2).2.2] at m3; first | exact x3 m3 | exact m3 x3) | exact ⟨rfl, join_cp h0 x4 m4⟩ | skip
  refine ⟨rfl, ?_⟩
  obtain ⟨f0, f1⟩ := x1
  rcases x4 with rfl | x4
  · exact rel_fs hI hM hR f0 f1 x2 x5 m4
  · have e := x4.1
    have hR2 : Rel s pm := fun g g0 g1 => by
      rw [sameF_fr (e 0 (by decide)) (e 2 (by decide)) (e 3 (by decide)), sameF_fr (e 0 (by decide)) (e 2 (by decide)) (e 3 (by decide)), e 10 (by decide), e 11 (by decide), e 12 (by decide)]
      exact hR g g0 g1
    exact rel_fs x4.2 hM hR2 f0 f1 (by rw [e 10 (by decide)]; exact x2) x5 m4
theorem join_exists (h : LInv N st pm) (hx : xExists st f a u) (hm : mExists pm f a' v) : a = a' ∧ LInv (N + 1) u v := by
  obtain ⟨rfl, hx⟩ := hx
  obtain ⟨rfl, hm⟩ := hm
  refine ⟨?_, h.up⟩
  rcases hx with ⟨x1, rfl⟩ | ⟨x1, rfl⟩ <;> rcases hm with ⟨m1, rfl⟩ | ⟨m1, rfl⟩ <;> first | rfl | skip
  · exact absurd ⟨x1.1, fun e => x1.2 ((rel_pos h x1.1.1 x1.1.2).1.mpr e)⟩ m1
  · exact absurd ⟨m1.1, fun e => m1.2 ((rel_pos h m1.1.1 m1.1.2).1.mp e)⟩ x1
theorem join_size (h : LInv N st pm) (hx : xSize st f a u) (hm : mSize pm f a' v) : a = a' ∧ LInv (N + 1) u v := by
  obtain ⟨rfl, hx⟩ := hx
  obtain ⟨rfl, hm⟩ := hm
  refine ⟨?_, h.up⟩
  rcases hx with ⟨x1, rfl⟩ | ⟨x1, x2, rfl⟩ | ⟨x1, x2, rfl⟩ <;> rcases hm with ⟨m1, rfl⟩ | ⟨m1, m2, rfl⟩ | ⟨m1, m2, rfl⟩ <;> first | rfl | exact absurd m1 x1 | exact absurd x1 m1 | exact absurd ((rel_pos h x1.1 x1.2).1.mpr m2) x2 | exact absurd ((rel_pos h x1.1 x1.2).1.mp x2) m2 | exact ((rel_pos h x1.1 x1.2).2 x2).2.symm
theorem join_read {i : Int} (h : LInv N st pm) (hx : xRead st f i a u) (hm : mRead pm f i a' v) : a = a' ∧ LInv (N + 1) u v := by
  obtain ⟨rfl, hx⟩ := hx
  obtain ⟨rfl, hm⟩ := hm
  refine ⟨?_, h.up⟩
  rcases hx with ⟨⟨x1, x2, x3, x4⟩, rfl⟩ | ⟨x1, rfl⟩ <;> rcases hm with ⟨⟨m1, m2, m3, m4⟩, rfl⟩ | ⟨m1, rfl⟩ <;> first | rfl | skip
  · exact (((h.2.2 f x1.1 x1.2).1.pos x2).2.2 i x3 x4).symm
  · have r := (rel_pos h x1.1 x1.2)
    exact absurd ⟨x1, fun e => x2 (r.1.mpr e), x3, by rw [(r.2 x2).2]; exact x4⟩ m1
  · have r := (rel_pos h m1.1 m1.2)
    have x2 : u 10 f ≠ -1 := fun e => m2 (r.1.mp e)
    exact absurd ⟨m1, x2, m3, by rw [← (r.2 x2).2]; exact m4⟩ x1
theorem join_uns (h : LInv N st pm) (hx : xUns st a u) (hm : mUns pm a' v) : a = a' ∧ LInv (N + 1) u v := by
  obtain ⟨rfl, rfl⟩ := hx
  obtain ⟨rfl, rfl⟩ := hm
  refine ⟨csum_congr (fun f f0 f1 => d01_c ?_), h.up⟩
  obtain ⟨r1, r2, -⟩ := h.2.2 f f0 (by omega)
  have e1 := r1.iff
  have e2 := r2.iff
  by_cases hn : u 10 f = -1
  · have z1 := e1.mp hn
    by_cases hm : u 11 f = -1
    · have z2 := e2.mp hm
      constructor
      · rintro (⟨-, q⟩ | ⟨⟨q, -⟩, -⟩)
        · exact absurd (hn.trans hm.symm) q
        · exact absurd hn q
      · rintro (q | ⟨-, q, -⟩)
        · exact absurd (z1.trans z2.symm) q
        · exact absurd z1 q
    · exact ⟨fun _ => Or.inl (fun e => hm (e2.mpr (by rw [← e]; exact z1))), fun _ => Or.inl ⟨Or.inl hn, fun e => hm (by rw [← e]; exact hn)⟩⟩
  · obtain ⟨p0, p1, p2⟩ := r1.pos hn
    by_cases hm : u 11 f = -1
    · have z2 := e2.mp hm
      exact ⟨fun _ => Or.inl (by rw [p0, z2]; decide), fun _ => Or.inl ⟨Or.inr hm, fun e => hn (by rw [e]; exact hm)⟩⟩
    · obtain ⟨q0, q1, q2⟩ := r2.pos hm
      have es : u 2 (u 10 f) = u 2 (u 11 f) → ((∃ i : Int, 0 ≤ i ∧ i < u 2 (u 10 f) ∧ ¬ Int32.ofInt (u 0 (u 3 (u 10 f * 4 + i))) = Int32.ofInt (u 0 (u 3 (u 11 f * 4 + i)))) ↔ ∃ i : Int, 0 ≤ i ∧ i < v 1 f ∧ ¬ Int32.ofInt (v 2 (4 * f + i)) = Int32.ofInt (v 2 (24 + 4 * f + i))) := fun e => by
        have w : ∀ i : Int, 0 ≤ i → i < u 2 (u 10 f) → v 2 (4 * f + i) = u 0 (u 3 (u 10 f * 4 + i)) ∧ v 2 (24 + 4 * f + i) = u 0 (u 3 (u 11 f * 4 + i)) := fun i i0 i1 => by
          rw [show 24 + 4 * f + i = 4 * (6 + f) + i by omega]
          exact ⟨p2 i i0 i1, q2 i i0 (by omega)⟩
        rw [p1]
        constructor
        · rintro ⟨i, i0, i1, hi⟩
          exact ⟨i, i0, i1, by rw [(w i i0 i1).1, (w i i0 i1).2]; exact hi⟩
        · rintro ⟨i, i0, i1, hi⟩
          exact ⟨i, i0, i1, by rw [(w i i0 i1).1, (w i i0 i1).2] at hi; exact hi⟩
      by_cases e : u 2 (u 10 f) = u 2 (u 11 f)
      · constructor
        · rintro (⟨q, -⟩ | ⟨-, q | q⟩)
          · rcases q with q | q
            · exact absurd q hn
            · exact absurd q hm
          · exact absurd e q
          · exact Or.inr ⟨by rw [p0, q0], by rw [p0]; decide, Or.inl ((es e).mp q)⟩
        · rintro (q | ⟨-, -, q | q⟩)
          · exact absurd (by rw [p0, q0]) q
          · exact Or.inr ⟨⟨hn, hm⟩, Or.inr ((es e).mpr q)⟩
          · exact absurd (by rw [p1, q1, e]) q
      · exact ⟨fun _ => Or.inr ⟨by rw [p0, q0], by rw [p0]; decide, Or.inr (by rw [p1, q1]; exact e)⟩, fun _ => Or.inr ⟨⟨hn, hm⟩, Or.inl e⟩⟩
theorem csum_cut (g : Int → Int) (k : Nat) : ∀ d : Nat, (∀ i : Nat, k ≤ i → g i = 0) → csum g (k + d) = csum g k := by
  intro d
  induction d with
  | zero => intro _; rfl
  | succ d ih =>
    intro hz
    show csum g (k + d) + g ((k + d : Nat) : Int) = csum g k
    rw [ih hz, hz (k + d) (by omega), Int.add_zero]
theorem join_digest (h : LInv N st pm) (hx : xDigest st a u) (hm : mDigest pm a' v) : a = a' ∧ LInv (N + 1) u v := by
  obtain ⟨rfl, rfl⟩ := hx
  obtain ⟨rfl, rfl⟩ := hm
  refine ⟨csum_congr (fun f f0 f1 => ?_), h.up⟩
  obtain ⟨r1, r2, -⟩ := h.2.2 f f0 (by omega)
  obtain ⟨⟨c, hI⟩, -⟩ := h
  rw [dgX, dgM]
  by_cases hn : u 10 f = -1
  · have z := r1.iff.mp hn
    have e : csum (dgJ v f) 4 = 0 := by
      have := csum_cut (dgJ v f) 0 4 (fun i _ => by rw [dgJ, rdM, if_neg (fun q => q.1 z), Int.mul_zero])
      exact this
    rw [if_pos hn, if_pos z, e]; rfl
  · obtain ⟨p0, p1, p2⟩ := r1.pos hn
    obtain ⟨o1, o2, o3, o4, o5⟩ := (hI.1 f f0 (by omega)).1.resolve_left hn
    rw [if_neg hn, if_neg (by rw [p0]; decide), p1]
    have e1 : csum (dgJ v f) 4 = csum (dgJ v f) (u 2 (u 10 f)).toNat := by
      have := csum_cut (dgJ v f) (u 2 (u 10 f)).toNat (4 - (u 2 (u 10 f)).toNat) (fun i hi => by rw [dgJ, rdM, if_neg (fun q => by have := q.2; omega), Int.mul_zero])
      rwa [show (u 2 (u 10 f)).toNat + (4 - (u 2 (u 10 f)).toNat) = 4 by omega] at this
    rw [e1]
    congr 1
    refine csum_congr (fun i i0 i1 => ?_)
    rw [dgI, dgJ, rdM, if_pos ⟨by rw [p0]; decide, by omega⟩, p2 i i0 (by omega)]
end
end
section
/-! THE CONSTRUCTOR of NodeTableFiles (written by gen/m_init.py) -/
def ixP (u : PS) : Prop := InvC 1 0 u ∧ ∀ g : Int, 0 ≤ g → g < 6 → u 10 g = -1 ∧ u 11 g = -1 ∧ u 12 g = 0
def ixA (u : PS) : Prop := fr [4] z0 u
def ixB (f : Int) (u : PS) : Prop := fr [4, 10, 11] z0 u ∧ ∀ g : Int, 0 ≤ g → g < f → u 10 g = -1 ∧ u 11 g = -1
theorem ixB_0 {u : PS} (h : ixA u) : ixB 0 u := ⟨fun k hk => h k (fun e => hk (by simp at e; simp [e])), fun g g0 g1 => by omega⟩
theorem ixB_s {f : Int} {u : PS} (h : ixB f u) : ixB (f + 1) (sw (sw u 10 f (-1)) 11 f (-1)) := by
  refine ⟨(h.1.sw (by decide)).sw (by decide), fun g g0 g1 => ?_⟩
  by_cases e : g = f
  · subst e
    rw [sw_ne (by decide), sw_eq, sw_eq]; exact ⟨rfl, rfl⟩
  · rw [sw_na e, sw_na e, sw_na e, sw_na e]; exact h.2 g g0 (by omega)
theorem ix_pre {u : PS} (h : ixB 6 u) : CPre (sw u 14 0 (-1)) := by
  have e14 : u 14 = z0 14 := h.1 14 (by decide)
  have e6 : sw u 14 0 (-1) 6 = z0 6 := by rw [sw_ne (by decide)]; exact h.1 6 (by decide)
  have e7 : sw u 14 0 (-1) 7 = z0 7 := by rw [sw_ne (by decide)]; exact h.1 7 (by decide)
  have e2 : sw u 14 0 (-1) 14 2 = 0 := by rw [sw_na (by decide), e14]; rfl
  have e3 : sw u 14 0 (-1) 14 3 = 0 := by rw [sw_na (by decide), e14]; rfl
  refine ⟨fun f f0 f1 => Or.inl ?_, by rw [e2]; decide, by rw [e3]; decide, by rw [e6, e7]; rfl, by rw [e6, e7]; rfl, by rw [e7, e2]; rfl⟩
  rw [sw_ne (by decide)]; exact (h.2 f f0 f1).1
theorem ix_fin {u w : PS} (h : ixB 6 u) (hw : cpP (sw u 14 0 (-1)) w) : ixP w := by
  have e14 : u 14 = z0 14 := h.1 14 (by decide)
  have e2 : sw u 14 0 (-1) 14 2 = 0 := by rw [sw_na (by decide), e14]; rfl
  obtain ⟨h1, h2, h3⟩ := hw
  rw [e2] at h2
  refine ⟨h2, fun g g0 g1 => ?_⟩
  obtain ⟨k1, k2⟩ := h3 g g0 g1
  rw [h1 10 (by decide), k1, k2, sw_ne (by decide), (h.2 g g0 g1).1]; exact ⟨rfl, rfl, rfl⟩
set_option maxRecDepth 100000
/-- the cell of a new object of class 0 -/
abbrev xw0 (h0 : Nat) : va_W := [(h0, .inr (0, [.null, .null, .null, .null, .null, .null, .null, .null, .null, .null, .null, .null, .null, iv 0, iv 0, iv 0, iv 0, .null]))]
set_option maxHeartbeats 4000000 in
theorem mx_init (l : Launch) (D : va_G) (cI cB : ClassId) (h0 : Nat) : MC l D cI cB (xw0 h0) (fun ad => xw h0 ad cI cB) yX0_init cX0_init 2 5 111 14 1316 [.ref h0] (ixP) := by
  refine MC_of (by decide +kernel) rfl (Nat.le_of_ble_eq_true rfl) (fun E hF hN hret => ?_)
  have hF : JF E l cX0_init RX0 2 { frames := 5, cells := 14, slots := 1316, locals := 111 } D cI cB := hF
  show J E 0 0 [(h0, .inr (0, [.null, .null, .null, .null, .null, .null, .null, .null, .null, .null, .null, .null, .null, iv 0, iv 0, iv 0, iv 0, .null]))] 0 [(0, .ref h0)] []
  have loop2 : ∀ (ad : Nat → Nat) (n : Nat) (f : Int) (u : PS), 6 - f < (n : Int) → 0 ≤ f → f ≤ 6 → ixB f u → J E 14 1316 (xw h0 ad cI cB u) 144 [(0, .ref h0), (1, iv f)] [] := by
    intro ad n
    induction n with
    | zero => intro f u hm f0 f1 hI; omega
    | succ n ih =>
      intro f u hm f0 f1 hI
      refine j_iload_n hF dX0_init_144 rfl 1 rfl ?_
      refine j_bipush hF dX0_init_145 (by decide) ?_
      refine j_icmp_ge hF 170 dX0_init_147 (by decide) (by omega) (by omega) (fun c1 => ?_) (fun c1 => ?_)
      · have e : f = 6 := by omega
        subst e
        refine j_aload_n hF dX0_init_170 rfl 0 rfl ?_
        refine j_iconst hF dX0_init_171 ?_
        refine xps0 hF dX0_init_172 ?_
        refine j_aload_n hF dX0_init_175 rfl 0 rfl ?_
        refine j_callv (As := []) (n := 0) hF (mx_checkpoint l D cI cB h0 ad (sw u 14 0 (-1)) (ix_pre hI)) (lw_V q27 q29 qs0 q17 q30) (by decide +kernel) (by decide) ⟨Nat.le_of_ble_eq_true rfl, Nat.le_of_ble_eq_true rfl⟩ rfl 0 rfl rfl rfl [] rfl (by simp [Value.category]) dX0_init_176 (fun w hw => ?_)
        exact hret ad w _ _ dX0_init_179 (ix_fin hI hw)
      · refine j_aload_n hF dX0_init_150 rfl 0 rfl ?_
        refine xg10 hF dX0_init_151 ?_
        refine j_iload_n hF dX0_init_154 rfl 1 rfl ?_
        refine j_iconst hF dX0_init_155 ?_
        refine xs10 hF dX0_init_156 (by omega) ?_
        refine j_aload_n hF dX0_init_157 rfl 0 rfl ?_
        refine xg11 hF dX0_init_158 ?_
        refine j_iload_n hF dX0_init_161 rfl 1 rfl ?_
        refine j_iconst hF dX0_init_162 ?_
        refine xs11 hF dX0_init_163 (by omega) ?_
        refine j_iinc hF [(0, .ref h0), (1, iv (f + 1))] dX0_init_164 1 rfl (by decide) [1, 0] rfl ?_
        refine j_goto hF 144 dX0_init_167 (by decide) ?_
        exact ih (f + 1) _ (by omega) (by omega) (by omega) (ixB_s hI)
  have loop1 : ∀ (ad : Nat → Nat) (n : Nat) (b : Int) (u : PS), 128 - b < (n : Int) → 0 ≤ b → b ≤ 128 → ixA u → J E 14 1316 (xw h0 ad cI cB u) 122 [(0, .ref h0), (1, iv b)] [] := by
    intro ad n
    induction n with
    | zero => intro b u hm b0 b1 hI; omega
    | succ n ih =>
      intro b u hm b0 b1 hI
      refine j_iload_n hF dX0_init_122 rfl 1 rfl ?_
      refine j_sipush hF dX0_init_123 (by decide) ?_
      refine j_icmp_ge hF 142 dX0_init_126 (by decide) (by omega) (by omega) (fun c1 => ?_) (fun c1 => ?_)
      · refine j_iconst hF dX0_init_142 ?_
        refine j_istore_n hF [(0, .ref h0), (1, iv 0)] dX0_init_143 rfl (by decide) [1, 0] rfl ?_
        exact loop2 ad 7 0 u (by omega) (by omega) (by omega) (ixB_0 hI)
      · refine j_aload_n hF dX0_init_129 rfl 0 rfl ?_
        refine xg4 hF dX0_init_130 ?_
        refine j_iload_n hF dX0_init_133 rfl 1 rfl ?_
        refine j_iconst hF dX0_init_134 ?_
        refine xs4 hF dX0_init_135 (by omega) ?_
        refine j_iinc hF [(0, .ref h0), (1, iv (b + 1))] dX0_init_136 1 rfl (by decide) [1, 0] rfl ?_
        refine j_goto hF 122 dX0_init_139 (by decide) ?_
        exact ih (b + 1) _ (by omega) (by omega) (by omega) (fr.sw hI (by decide))
  refine j_aload_n hF dX0_init_0 rfl 0 rfl ?_
  refine j_obj hF q24 (Nat.le_of_ble_eq_true rfl) (Nat.le_of_ble_eq_true rfl) dX0_init_1 ?_
  refine j_aload_n hF dX0_init_4 rfl 0 rfl ?_
  refine j_sipush hF dX0_init_5 (by decide) ?_
  refine j_newI 0 128 (by decide) (by decide) hF dX0_init_8 (Nat.le_of_ble_eq_true rfl) (Nat.le_of_ble_eq_true rfl) (fun a0 => ?_)
  refine j_putF (C := RX0) (T := TX0) (N := 18) (ci := 0) (ty := tyX0 0) (ws' := [(h0, .inr (0, [.ref a0, .null, .null, .null, .null, .null, .null, .null, .null, .null, .null, .null, .null, iv 0, iv 0, iv 0, iv 0, .null])), (a0, .inl (cI, 128, .inl (ca z0 0)))]) in_X0 tyX0 tyX0_ok nmX0 0 rfl rfl 0 (by decide) q51 rfl rfl rfl (by decide +kernel) rfl rfl (Nat.le_of_ble_eq_true rfl) rfl hF hN dX0_init_10 ?_
  refine j_aload_n hF dX0_init_13 rfl 0 rfl ?_
  refine j_sipush hF dX0_init_14 (by decide) ?_
  refine j_newI 1 128 (by decide) (by decide) hF dX0_init_17 (Nat.le_of_ble_eq_true rfl) (Nat.le_of_ble_eq_true rfl) (fun a1 => ?_)
  refine j_putF (C := RX0) (T := TX0) (N := 18) (ci := 0) (ty := tyX0 1) (ws' := [(h0, .inr (0, [.ref a0, .ref a1, .null, .null, .null, .null, .null, .null, .null, .null, .null, .null, .null, iv 0, iv 0, iv 0, iv 0, .null])), (a0, .inl (cI, 128, .inl (ca z0 0))), (a1, .inl (cI, 128, .inl (ca z0 1)))]) in_X0 tyX0 tyX0_ok nmX0 0 rfl rfl 1 (by decide) q52 rfl rfl rfl (by decide +kernel) rfl rfl (Nat.le_of_ble_eq_true rfl) rfl hF hN dX0_init_19 ?_
  refine j_aload_n hF dX0_init_22 rfl 0 rfl ?_
  refine j_sipush hF dX0_init_23 (by decide) ?_
  refine j_newI 2 128 (by decide) (by decide) hF dX0_init_26 (Nat.le_of_ble_eq_true rfl) (Nat.le_of_ble_eq_true rfl) (fun a2 => ?_)
  refine j_putF (C := RX0) (T := TX0) (N := 18) (ci := 0) (ty := tyX0 2) (ws' := [(h0, .inr (0, [.ref a0, .ref a1, .ref a2, .null, .null, .null, .null, .null, .null, .null, .null, .null, .null, iv 0, iv 0, iv 0, iv 0, .null])), (a0, .inl (cI, 128, .inl (ca z0 0))), (a1, .inl (cI, 128, .inl (ca z0 1))), (a2, .inl (cI, 128, .inl (ca z0 2)))]) in_X0 tyX0 tyX0_ok nmX0 0 rfl rfl 2 (by decide) q53 rfl rfl rfl (by decide +kernel) rfl rfl (Nat.le_of_ble_eq_true rfl) rfl hF hN dX0_init_28 ?_
  refine j_aload_n hF dX0_init_31 rfl 0 rfl ?_
  refine j_sipush hF dX0_init_32 (by decide) ?_
  refine j_newI 3 512 (by decide) (by decide) hF dX0_init_35 (Nat.le_of_ble_eq_true rfl) (Nat.le_of_ble_eq_true rfl) (fun a3 => ?_)
  refine j_putF (C := RX0) (T := TX0) (N := 18) (ci := 0) (ty := tyX0 3) (ws' := [(h0, .inr (0, [.ref a0, .ref a1, .ref a2, .ref a3, .null, .null, .null, .null, .null, .null, .null, .null, .null, iv 0, iv 0, iv 0, iv 0, .null])), (a0, .inl (cI, 128, .inl (ca z0 0))), (a1, .inl (cI, 128, .inl (ca z0 1))), (a2, .inl (cI, 128, .inl (ca z0 2))), (a3, .inl (cI, 512, .inl (ca z0 3)))]) in_X0 tyX0 tyX0_ok nmX0 0 rfl rfl 3 (by decide) q54 rfl rfl rfl (by decide +kernel) rfl rfl (Nat.le_of_ble_eq_true rfl) rfl hF hN dX0_init_37 ?_
  refine j_aload_n hF dX0_init_40 rfl 0 rfl ?_
  refine j_sipush hF dX0_init_41 (by decide) ?_
  refine j_newI 4 128 (by decide) (by decide) hF dX0_init_44 (Nat.le_of_ble_eq_true rfl) (Nat.le_of_ble_eq_true rfl) (fun a4 => ?_)
  refine j_putF (C := RX0) (T := TX0) (N := 18) (ci := 0) (ty := tyX0 4) (ws' := [(h0, .inr (0, [.ref a0, .ref a1, .ref a2, .ref a3, .ref a4, .null, .null, .null, .null, .null, .null, .null, .null, iv 0, iv 0, iv 0, iv 0, .null])), (a0, .inl (cI, 128, .inl (ca z0 0))), (a1, .inl (cI, 128, .inl (ca z0 1))), (a2, .inl (cI, 128, .inl (ca z0 2))), (a3, .inl (cI, 512, .inl (ca z0 3))), (a4, .inl (cI, 128, .inl (ca z0 4)))]) in_X0 tyX0 tyX0_ok nmX0 0 rfl rfl 4 (by decide) q55 rfl rfl rfl (by decide +kernel) rfl rfl (Nat.le_of_ble_eq_true rfl) rfl hF hN dX0_init_46 ?_
  refine j_aload_n hF dX0_init_49 rfl 0 rfl ?_
  refine j_sipush hF dX0_init_50 (by decide) ?_
  refine j_newI 5 128 (by decide) (by decide) hF dX0_init_53 (Nat.le_of_ble_eq_true rfl) (Nat.le_of_ble_eq_true rfl) (fun a5 => ?_)
  refine j_putF (C := RX0) (T := TX0) (N := 18) (ci := 0) (ty := tyX0 5) (ws' := [(h0, .inr (0, [.ref a0, .ref a1, .ref a2, .ref a3, .ref a4, .ref a5, .null, .null, .null, .null, .null, .null, .null, iv 0, iv 0, iv 0, iv 0, .null])), (a0, .inl (cI, 128, .inl (ca z0 0))), (a1, .inl (cI, 128, .inl (ca z0 1))), (a2, .inl (cI, 128, .inl (ca z0 2))), (a3, .inl (cI, 512, .inl (ca z0 3))), (a4, .inl (cI, 128, .inl (ca z0 4))), (a5, .inl (cI, 128, .inl (ca z0 5)))]) in_X0 tyX0 tyX0_ok nmX0 0 rfl rfl 5 (by decide) q56 rfl rfl rfl (by decide +kernel) rfl rfl (Nat.le_of_ble_eq_true rfl) rfl hF hN dX0_init_55 ?_
  refine j_aload_n hF dX0_init_58 rfl 0 rfl ?_
  refine j_iconst hF dX0_init_59 ?_
  refine j_newI 6 2 (by decide) (by decide) hF dX0_init_60 (Nat.le_of_ble_eq_true rfl) (Nat.le_of_ble_eq_true rfl) (fun a6 => ?_)
  refine j_putF (C := RX0) (T := TX0) (N := 18) (ci := 0) (ty := tyX0 6) (ws' := [(h0, .inr (0, [.ref a0, .ref a1, .ref a2, .ref a3, .ref a4, .ref a5, .ref a6, .null, .null, .null, .null, .null, .null, iv 0, iv 0, iv 0, iv 0, .null])), (a0, .inl (cI, 128, .inl (ca z0 0))), (a1, .inl (cI, 128, .inl (ca z0 1))), (a2, .inl (cI, 128, .inl (ca z0 2))), (a3, .inl (cI, 512, .inl (ca z0 3))), (a4, .inl (cI, 128, .inl (ca z0 4))), (a5, .inl (cI, 128, .inl (ca z0 5))), (a6, .inl (cI, 2, .inl (ca z0 6)))]) in_X0 tyX0 tyX0_ok nmX0 0 rfl rfl 6 (by decide) q57 rfl rfl rfl (by decide +kernel) rfl rfl (Nat.le_of_ble_eq_true rfl) rfl hF hN dX0_init_62 ?_
  refine j_aload_n hF dX0_init_65 rfl 0 rfl ?_
  refine j_iconst hF dX0_init_66 ?_
  refine j_newI 7 2 (by decide) (by decide) hF dX0_init_67 (Nat.le_of_ble_eq_true rfl) (Nat.le_of_ble_eq_true rfl) (fun a7 => ?_)
  refine j_putF (C := RX0) (T := TX0) (N := 18) (ci := 0) (ty := tyX0 7) (ws' := [(h0, .inr (0, [.ref a0, .ref a1, .ref a2, .ref a3, .ref a4, .ref a5, .ref a6, .ref a7, .null, .null, .null, .null, .null, iv 0, iv 0, iv 0, iv 0, .null])), (a0, .inl (cI, 128, .inl (ca z0 0))), (a1, .inl (cI, 128, .inl (ca z0 1))), (a2, .inl (cI, 128, .inl (ca z0 2))), (a3, .inl (cI, 512, .inl (ca z0 3))), (a4, .inl (cI, 128, .inl (ca z0 4))), (a5, .inl (cI, 128, .inl (ca z0 5))), (a6, .inl (cI, 2, .inl (ca z0 6))), (a7, .inl (cI, 2, .inl (ca z0 7)))]) in_X0 tyX0 tyX0_ok nmX0 0 rfl rfl 7 (by decide) q58 rfl rfl rfl (by decide +kernel) rfl rfl (Nat.le_of_ble_eq_true rfl) rfl hF hN dX0_init_69 ?_
  refine j_aload_n hF dX0_init_72 rfl 0 rfl ?_
  refine j_bipush hF dX0_init_73 (by decide) ?_
  refine j_newI 8 12 (by decide) (by decide) hF dX0_init_75 (Nat.le_of_ble_eq_true rfl) (Nat.le_of_ble_eq_true rfl) (fun a8 => ?_)
  refine j_putF (C := RX0) (T := TX0) (N := 18) (ci := 0) (ty := tyX0 8) (ws' := [(h0, .inr (0, [.ref a0, .ref a1, .ref a2, .ref a3, .ref a4, .ref a5, .ref a6, .ref a7, .ref a8, .null, .null, .null, .null, iv 0, iv 0, iv 0, iv 0, .null])), (a0, .inl (cI, 128, .inl (ca z0 0))), (a1, .inl (cI, 128, .inl (ca z0 1))), (a2, .inl (cI, 128, .inl (ca z0 2))), (a3, .inl (cI, 512, .inl (ca z0 3))), (a4, .inl (cI, 128, .inl (ca z0 4))), (a5, .inl (cI, 128, .inl (ca z0 5))), (a6, .inl (cI, 2, .inl (ca z0 6))), (a7, .inl (cI, 2, .inl (ca z0 7))), (a8, .inl (cI, 12, .inl (ca z0 8)))]) in_X0 tyX0 tyX0_ok nmX0 0 rfl rfl 8 (by decide) q59 rfl rfl rfl (by decide +kernel) rfl rfl (Nat.le_of_ble_eq_true rfl) rfl hF hN dX0_init_77 ?_
  refine j_aload_n hF dX0_init_80 rfl 0 rfl ?_
  refine j_iconst hF dX0_init_81 ?_
  refine j_newI 9 2 (by decide) (by decide) hF dX0_init_82 (Nat.le_of_ble_eq_true rfl) (Nat.le_of_ble_eq_true rfl) (fun a9 => ?_)
  refine j_putF (C := RX0) (T := TX0) (N := 18) (ci := 0) (ty := tyX0 9) (ws' := [(h0, .inr (0, [.ref a0, .ref a1, .ref a2, .ref a3, .ref a4, .ref a5, .ref a6, .ref a7, .ref a8, .ref a9, .null, .null, .null, iv 0, iv 0, iv 0, iv 0, .null])), (a0, .inl (cI, 128, .inl (ca z0 0))), (a1, .inl (cI, 128, .inl (ca z0 1))), (a2, .inl (cI, 128, .inl (ca z0 2))), (a3, .inl (cI, 512, .inl (ca z0 3))), (a4, .inl (cI, 128, .inl (ca z0 4))), (a5, .inl (cI, 128, .inl (ca z0 5))), (a6, .inl (cI, 2, .inl (ca z0 6))), (a7, .inl (cI, 2, .inl (ca z0 7))), (a8, .inl (cI, 12, .inl (ca z0 8))), (a9, .inl (cI, 2, .inl (ca z0 9)))]) in_X0 tyX0 tyX0_ok nmX0 0 rfl rfl 9 (by decide) q60 rfl rfl rfl (by decide +kernel) rfl rfl (Nat.le_of_ble_eq_true rfl) rfl hF hN dX0_init_84 ?_
  refine j_aload_n hF dX0_init_87 rfl 0 rfl ?_
  refine j_bipush hF dX0_init_88 (by decide) ?_
  refine j_newI 10 6 (by decide) (by decide) hF dX0_init_90 (Nat.le_of_ble_eq_true rfl) (Nat.le_of_ble_eq_true rfl) (fun a10 => ?_)
  refine j_putF (C := RX0) (T := TX0) (N := 18) (ci := 0) (ty := tyX0 10) (ws' := [(h0, .inr (0, [.ref a0, .ref a1, .ref a2, .ref a3, .ref a4, .ref a5, .ref a6, .ref a7, .ref a8, .ref a9, .ref a10, .null, .null, iv 0, iv 0, iv 0, iv 0, .null])), (a0, .inl (cI, 128, .inl (ca z0 0))), (a1, .inl (cI, 128, .inl (ca z0 1))), (a2, .inl (cI, 128, .inl (ca z0 2))), (a3, .inl (cI, 512, .inl (ca z0 3))), (a4, .inl (cI, 128, .inl (ca z0 4))), (a5, .inl (cI, 128, .inl (ca z0 5))), (a6, .inl (cI, 2, .inl (ca z0 6))), (a7, .inl (cI, 2, .inl (ca z0 7))), (a8, .inl (cI, 12, .inl (ca z0 8))), (a9, .inl (cI, 2, .inl (ca z0 9))), (a10, .inl (cI, 6, .inl (ca z0 10)))]) in_X0 tyX0 tyX0_ok nmX0 0 rfl rfl 10 (by decide) q61 rfl rfl rfl (by decide +kernel) rfl rfl (Nat.le_of_ble_eq_true rfl) rfl hF hN dX0_init_92 ?_
  refine j_aload_n hF dX0_init_95 rfl 0 rfl ?_
  refine j_bipush hF dX0_init_96 (by decide) ?_
  refine j_newI 11 6 (by decide) (by decide) hF dX0_init_98 (Nat.le_of_ble_eq_true rfl) (Nat.le_of_ble_eq_true rfl) (fun a11 => ?_)
  refine j_putF (C := RX0) (T := TX0) (N := 18) (ci := 0) (ty := tyX0 11) (ws' := [(h0, .inr (0, [.ref a0, .ref a1, .ref a2, .ref a3, .ref a4, .ref a5, .ref a6, .ref a7, .ref a8, .ref a9, .ref a10, .ref a11, .null, iv 0, iv 0, iv 0, iv 0, .null])), (a0, .inl (cI, 128, .inl (ca z0 0))), (a1, .inl (cI, 128, .inl (ca z0 1))), (a2, .inl (cI, 128, .inl (ca z0 2))), (a3, .inl (cI, 512, .inl (ca z0 3))), (a4, .inl (cI, 128, .inl (ca z0 4))), (a5, .inl (cI, 128, .inl (ca z0 5))), (a6, .inl (cI, 2, .inl (ca z0 6))), (a7, .inl (cI, 2, .inl (ca z0 7))), (a8, .inl (cI, 12, .inl (ca z0 8))), (a9, .inl (cI, 2, .inl (ca z0 9))), (a10, .inl (cI, 6, .inl (ca z0 10))), (a11, .inl (cI, 6, .inl (ca z0 11)))]) in_X0 tyX0 tyX0_ok nmX0 0 rfl rfl 11 (by decide) q62 rfl rfl rfl (by decide +kernel) rfl rfl (Nat.le_of_ble_eq_true rfl) rfl hF hN dX0_init_100 ?_
  refine j_aload_n hF dX0_init_103 rfl 0 rfl ?_
  refine j_bipush hF dX0_init_104 (by decide) ?_
  refine j_newZ 12 6 (by decide) (by decide) hF dX0_init_106 (Nat.le_of_ble_eq_true rfl) (Nat.le_of_ble_eq_true rfl) (fun a12 => ?_)
  refine j_putF (C := RX0) (T := TX0) (N := 18) (ci := 0) (ty := tyX0 12) (ws' := [(h0, .inr (0, [.ref a0, .ref a1, .ref a2, .ref a3, .ref a4, .ref a5, .ref a6, .ref a7, .ref a8, .ref a9, .ref a10, .ref a11, .ref a12, iv 0, iv 0, iv 0, iv 0, .null])), (a0, .inl (cI, 128, .inl (ca z0 0))), (a1, .inl (cI, 128, .inl (ca z0 1))), (a2, .inl (cI, 128, .inl (ca z0 2))), (a3, .inl (cI, 512, .inl (ca z0 3))), (a4, .inl (cI, 128, .inl (ca z0 4))), (a5, .inl (cI, 128, .inl (ca z0 5))), (a6, .inl (cI, 2, .inl (ca z0 6))), (a7, .inl (cI, 2, .inl (ca z0 7))), (a8, .inl (cI, 12, .inl (ca z0 8))), (a9, .inl (cI, 2, .inl (ca z0 9))), (a10, .inl (cI, 6, .inl (ca z0 10))), (a11, .inl (cI, 6, .inl (ca z0 11))), (a12, .inl (cB, 6, .inl (ca z0 12)))]) in_X0 tyX0 tyX0_ok nmX0 0 rfl rfl 12 (by decide) q63 rfl rfl rfl (by decide +kernel) rfl rfl (Nat.le_of_ble_eq_true rfl) rfl hF hN dX0_init_108 ?_
  refine j_aload_n hF dX0_init_111 rfl 0 rfl ?_
  refine j_sipush hF dX0_init_112 (by decide) ?_
  refine j_newZ 13 128 (by decide) (by decide) hF dX0_init_115 (Nat.le_of_ble_eq_true rfl) (Nat.le_of_ble_eq_true rfl) (fun a13 => ?_)
  refine j_putF (C := RX0) (T := TX0) (N := 18) (ci := 0) (ty := tyX0 17) (ws' := xw h0 (fun k => [a0, a1, a2, a3, a4, a5, a6, a7, a8, a9, a10, a11, a12, a13].getD k 0) cI cB z0) in_X0 tyX0 tyX0_ok nmX0 0 rfl rfl 17 (by decide) q68 rfl rfl rfl (by decide +kernel) rfl rfl (Nat.le_of_ble_eq_true rfl) rfl hF hN dX0_init_117 ?_
  refine j_widen (ce' := 14) (sl' := 1316) (Nat.le_of_ble_eq_true rfl) (Nat.le_of_ble_eq_true rfl) ?_
  refine j_iconst hF dX0_init_120 ?_
  refine j_istore_n hF [(0, .ref h0), (1, iv 0)] dX0_init_121 rfl (by decide) [1, 0] rfl ?_
  exact loop1 _ 129 0 z0 (by omega) (by omega) (by omega) fr.rf
end
section
/-! THE LAW'S CASES, one of the switch each (written by gen/m_law.py): both objects are called, their answers are the same, the pair goes on -/
set_option maxRecDepth 100000
section
variable {E : JE} {l : Launch} {D : va_G} {cI cB : ClassId} {ce sl : Nat} {h0 h1 : Nat} {ad bd : Nat → Nat} {st pm : PS} {b L : Nat} {xs : Nat → Int32} {i N : Int}
set_option maxHeartbeats 4000000 in
/-- case 0: create -/
theorem cs_create (hF : JF E l cL_law R_law 4 room_1 D cI cB) (hX : JX E b L xs) (hL : L ≤ 256) (hf : ce ≤ 600000 ∧ sl ≤ 7290000) (i0 : 0 ≤ i) (i1 : i + 4 ≤ (L : Int)) (hN : N ≤ 800) (h : LInv N st pm) (next : ∀ u v : PS, LInv (N + 1) u v → J E ce sl (xw h0 ad cI cB u ++ mw h1 bd cI cB v) 409 [(0, .ref b), (1, .ref h0), (2, .ref h1), (3, iv i)] []) : J E ce sl (xw h0 ad cI cB st ++ mw h1 bd cI cB pm) 100 [(0, .ref b), (1, .ref h0), (2, .ref h1), (3, iv i)] [] := by
  obtain ⟨⟨c, hI⟩, hM, hR⟩ := id h
  refine j_aload_n hF dL_law_100 rfl 1 rfl ?_
  refine j_aload_n hF dL_law_101 rfl 0 rfl ?_
  refine j_iload_n hF dL_law_102 rfl 3 rfl ?_
  refine j_iconst hF dL_law_103 ?_
  refine j_iadd hF dL_law_104 ?_
  refine j_sld hX hF dL_law_105 (by omega) (by omega) ?_
  refine j_callX (As := [iv (sv xs (i + 1))]) (n := 1) hF (mx_create l D cI cB h0 ad st N c (sv xs (i + 1)) (by omega) hI (sv_in _ _)) (lw_V q108 q109 q110 q17 q111) (by decide +kernel) (by decide) hf rfl rfl [] rfl (by simp [Value.category]) dL_law_106 (fun a u hx => ?_)
  refine j_aload_n hF dL_law_109 rfl 2 rfl ?_
  refine j_aload_n hF dL_law_110 rfl 0 rfl ?_
  refine j_iload_n hF dL_law_111 rfl 3 rfl ?_
  refine j_iconst hF dL_law_112 ?_
  refine j_iadd hF dL_law_113 ?_
  refine j_sld hX hF dL_law_114 (by omega) (by omega) ?_
  refine j_callM (As := [iv (sv xs (i + 1))]) (n := 1) hF (mm_create l D cI cB h1 bd pm (sv xs (i + 1)) hM (sv_in _ _)) (lw_V q199 q200 q201 q18 q202) (by decide +kernel) (by decide) hf rfl rfl [iv a] rfl (by simp [Value.category]) dL_law_115 (fun a' v hm => ?_)
  obtain ⟨e, hn⟩ := join_create h hx hm
  subst e
  exact j_same hF 409 dL_law_118 (by decide) (next u v hn)
set_option maxHeartbeats 4000000 in
/-- case 1: remove -/
theorem cs_remove (hF : JF E l cL_law R_law 4 room_1 D cI cB) (hX : JX E b L xs) (hL : L ≤ 256) (hf : ce ≤ 600000 ∧ sl ≤ 7290000) (i0 : 0 ≤ i) (i1 : i + 4 ≤ (L : Int)) (hN : N ≤ 800) (h : LInv N st pm) (next : ∀ u v : PS, LInv (N + 1) u v → J E ce sl (xw h0 ad cI cB u ++ mw h1 bd cI cB v) 409 [(0, .ref b), (1, .ref h0), (2, .ref h1), (3, iv i)] []) : J E ce sl (xw h0 ad cI cB st ++ mw h1 bd cI cB pm) 123 [(0, .ref b), (1, .ref h0), (2, .ref h1), (3, iv i)] [] := by
  obtain ⟨⟨c, hI⟩, hM, hR⟩ := id h
  refine j_aload_n hF dL_law_123 rfl 1 rfl ?_
  refine j_aload_n hF dL_law_124 rfl 0 rfl ?_
  refine j_iload_n hF dL_law_125 rfl 3 rfl ?_
  refine j_iconst hF dL_law_126 ?_
  refine j_iadd hF dL_law_127 ?_
  refine j_sld hX hF dL_law_128 (by omega) (by omega) ?_
  refine j_callX (As := [iv (sv xs (i + 1))]) (n := 1) hF (mx_remove l D cI cB h0 ad st N c (sv xs (i + 1)) (by omega) hI (sv_in _ _)) (lw_V q120 q121 q122 q17 q123) (by decide +kernel) (by decide) hf rfl rfl [] rfl (by simp [Value.category]) dL_law_129 (fun a u hx => ?_)
  refine j_aload_n hF dL_law_132 rfl 2 rfl ?_
  refine j_aload_n hF dL_law_133 rfl 0 rfl ?_
  refine j_iload_n hF dL_law_134 rfl 3 rfl ?_
  refine j_iconst hF dL_law_135 ?_
  refine j_iadd hF dL_law_136 ?_
  refine j_sld hX hF dL_law_137 (by omega) (by omega) ?_
  refine j_callM (As := [iv (sv xs (i + 1))]) (n := 1) hF (mm_remove l D cI cB h1 bd pm (sv xs (i + 1)) hM (sv_in _ _)) (lw_V q207 q208 q209 q18 q210) (by decide +kernel) (by decide) hf rfl rfl [iv a] rfl (by simp [Value.category]) dL_law_138 (fun a' v hm => ?_)
  obtain ⟨e, hn⟩ := join_remove h hx hm
  subst e
  exact j_same hF 409 dL_law_141 (by decide) (next u v hn)
set_option maxHeartbeats 4000000 in
/-- case 2: write -/
theorem cs_write (hF : JF E l cL_law R_law 4 room_1 D cI cB) (hX : JX E b L xs) (hL : L ≤ 256) (hf : ce ≤ 600000 ∧ sl ≤ 7290000) (i0 : 0 ≤ i) (i1 : i + 4 ≤ (L : Int)) (hN : N ≤ 800) (h : LInv N st pm) (next : ∀ u v : PS, LInv (N + 1) u v → J E ce sl (xw h0 ad cI cB u ++ mw h1 bd cI cB v) 409 [(0, .ref b), (1, .ref h0), (2, .ref h1), (3, iv i)] []) : J E ce sl (xw h0 ad cI cB st ++ mw h1 bd cI cB pm) 146 [(0, .ref b), (1, .ref h0), (2, .ref h1), (3, iv i)] [] := by
  obtain ⟨⟨c, hI⟩, hM, hR⟩ := id h
  refine j_aload_n hF dL_law_146 rfl 1 rfl ?_
  refine j_aload_n hF dL_law_147 rfl 0 rfl ?_
  refine j_iload_n hF dL_law_148 rfl 3 rfl ?_
  refine j_iconst hF dL_law_149 ?_
  refine j_iadd hF dL_law_150 ?_
  refine j_sld hX hF dL_law_151 (by omega) (by omega) ?_
  refine j_aload_n hF dL_law_152 rfl 0 rfl ?_
  refine j_iload_n hF dL_law_153 rfl 3 rfl ?_
  refine j_iconst hF dL_law_154 ?_
  refine j_iadd hF dL_law_155 ?_
  refine j_sld hX hF dL_law_156 (by omega) (by omega) ?_
  refine j_aload_n hF dL_law_157 rfl 0 rfl ?_
  refine j_iload_n hF dL_law_158 rfl 3 rfl ?_
  refine j_iconst hF dL_law_159 ?_
  refine j_iadd hF dL_law_160 ?_
  refine j_sld hX hF dL_law_161 (by omega) (by omega) ?_
  refine j_callX (As := [iv (sv xs (i + 1)), iv (sv xs (i + 2)), iv (sv xs (i + 3))]) (n := 3) hF (mx_write l D cI cB h0 ad st N c (sv xs (i + 1)) (sv xs (i + 2)) (sv xs (i + 3)) (by omega) hI (sv_in _ _) (sv_in _ _)) (lw_V q124 q125 q126 q17 q127) (by decide +kernel) (by decide) hf rfl rfl [] rfl (by simp [Value.category]) dL_law_162 (fun a u hx => ?_)
  refine j_aload_n hF dL_law_165 rfl 2 rfl ?_
  refine j_aload_n hF dL_law_166 rfl 0 rfl ?_
  refine j_iload_n hF dL_law_167 rfl 3 rfl ?_
  refine j_iconst hF dL_law_168 ?_
  refine j_iadd hF dL_law_169 ?_
  refine j_sld hX hF dL_law_170 (by omega) (by omega) ?_
  refine j_aload_n hF dL_law_171 rfl 0 rfl ?_
  refine j_iload_n hF dL_law_172 rfl 3 rfl ?_
  refine j_iconst hF dL_law_173 ?_
  refine j_iadd hF dL_law_174 ?_
  refine j_sld hX hF dL_law_175 (by omega) (by omega) ?_
  refine j_aload_n hF dL_law_176 rfl 0 rfl ?_
  refine j_iload_n hF dL_law_177 rfl 3 rfl ?_
  refine j_iconst hF dL_law_178 ?_
  refine j_iadd hF dL_law_179 ?_
  refine j_sld hX hF dL_law_180 (by omega) (by omega) ?_
  refine j_callM (As := [iv (sv xs (i + 1)), iv (sv xs (i + 2)), iv (sv xs (i + 3))]) (n := 3) hF (mm_write l D cI cB h1 bd pm (sv xs (i + 1)) (sv xs (i + 2)) (sv xs (i + 3)) hM (sv_in _ _) (sv_in _ _)) (lw_V q215 q216 q217 q18 q218) (by decide +kernel) (by decide) hf rfl rfl [iv a] rfl (by simp [Value.category]) dL_law_181 (fun a' v hm => ?_)
  obtain ⟨e, hn⟩ := join_write h hx hm
  subst e
  exact j_same hF 409 dL_law_184 (by decide) (next u v hn)
set_option maxHeartbeats 4000000 in
/-- case 3: truncate -/
theorem cs_truncate (hF : JF E l cL_law R_law 4 room_1 D cI cB) (hX : JX E b L xs) (hL : L ≤ 256) (hf : ce ≤ 600000 ∧ sl ≤ 7290000) (i0 : 0 ≤ i) (i1 : i + 4 ≤ (L : Int)) (hN : N ≤ 800) (h : LInv N st pm) (next : ∀ u v : PS, LInv (N + 1) u v → J E ce sl (xw h0 ad cI cB u ++ mw h1 bd cI cB v) 409 [(0, .ref b), (1, .ref h0), (2, .ref h1), (3, iv i)] []) : J E ce sl (xw h0 ad cI cB st ++ mw h1 bd cI cB pm) 189 [(0, .ref b), (1, .ref h0), (2, .ref h1), (3, iv i)] [] := by
  obtain ⟨⟨c, hI⟩, hM, hR⟩ := id h
  refine j_aload_n hF dL_law_189 rfl 1 rfl ?_
  refine j_aload_n hF dL_law_190 rfl 0 rfl ?_
  refine j_iload_n hF dL_law_191 rfl 3 rfl ?_
  refine j_iconst hF dL_law_192 ?_
  refine j_iadd hF dL_law_193 ?_
  refine j_sld hX hF dL_law_194 (by omega) (by omega) ?_
  refine j_aload_n hF dL_law_195 rfl 0 rfl ?_
  refine j_iload_n hF dL_law_196 rfl 3 rfl ?_
  refine j_iconst hF dL_law_197 ?_
  refine j_iadd hF dL_law_198 ?_
  refine j_sld hX hF dL_law_199 (by omega) (by omega) ?_
  refine j_callX (As := [iv (sv xs (i + 1)), iv (sv xs (i + 2))]) (n := 2) hF (mx_truncate l D cI cB h0 ad st N c (sv xs (i + 1)) (sv xs (i + 2)) (by omega) hI (sv_in _ _) (sv_in _ _)) (lw_V q128 q129 q130 q17 q131) (by decide +kernel) (by decide) hf rfl rfl [] rfl (by simp [Value.category]) dL_law_200 (fun a u hx => ?_)
  refine j_aload_n hF dL_law_203 rfl 2 rfl ?_
  refine j_aload_n hF dL_law_204 rfl 0 rfl ?_
  refine j_iload_n hF dL_law_205 rfl 3 rfl ?_
  refine j_iconst hF dL_law_206 ?_
  refine j_iadd hF dL_law_207 ?_
  refine j_sld hX hF dL_law_208 (by omega) (by omega) ?_
  refine j_aload_n hF dL_law_209 rfl 0 rfl ?_
  refine j_iload_n hF dL_law_210 rfl 3 rfl ?_
  refine j_iconst hF dL_law_211 ?_
  refine j_iadd hF dL_law_212 ?_
  refine j_sld hX hF dL_law_213 (by omega) (by omega) ?_
  refine j_callM (As := [iv (sv xs (i + 1)), iv (sv xs (i + 2))]) (n := 2) hF (mm_truncate l D cI cB h1 bd pm (sv xs (i + 1)) (sv xs (i + 2)) hM (sv_in _ _) (sv_in _ _)) (lw_V q219 q220 q221 q18 q222) (by decide +kernel) (by decide) hf rfl rfl [iv a] rfl (by simp [Value.category]) dL_law_214 (fun a' v hm => ?_)
  obtain ⟨e, hn⟩ := join_truncate h hx hm
  subst e
  exact j_same hF 409 dL_law_217 (by decide) (next u v hn)
set_option maxHeartbeats 4000000 in
/-- case 4: copy -/
theorem cs_copy (hF : JF E l cL_law R_law 4 room_1 D cI cB) (hX : JX E b L xs) (hL : L ≤ 256) (hf : ce ≤ 600000 ∧ sl ≤ 7290000) (i0 : 0 ≤ i) (i1 : i + 4 ≤ (L : Int)) (hN : N ≤ 800) (h : LInv N st pm) (next : ∀ u v : PS, LInv (N + 1) u v → J E ce sl (xw h0 ad cI cB u ++ mw h1 bd cI cB v) 409 [(0, .ref b), (1, .ref h0), (2, .ref h1), (3, iv i)] []) : J E ce sl (xw h0 ad cI cB st ++ mw h1 bd cI cB pm) 222 [(0, .ref b), (1, .ref h0), (2, .ref h1), (3, iv i)] [] := by
  obtain ⟨⟨c, hI⟩, hM, hR⟩ := id h
  refine j_aload_n hF dL_law_222 rfl 1 rfl ?_
  refine j_aload_n hF dL_law_223 rfl 0 rfl ?_
  refine j_iload_n hF dL_law_224 rfl 3 rfl ?_
  refine j_iconst hF dL_law_225 ?_
  refine j_iadd hF dL_law_226 ?_
  refine j_sld hX hF dL_law_227 (by omega) (by omega) ?_
  refine j_aload_n hF dL_law_228 rfl 0 rfl ?_
  refine j_iload_n hF dL_law_229 rfl 3 rfl ?_
  refine j_iconst hF dL_law_230 ?_
  refine j_iadd hF dL_law_231 ?_
  refine j_sld hX hF dL_law_232 (by omega) (by omega) ?_
  refine j_callX (As := [iv (sv xs (i + 1)), iv (sv xs (i + 2))]) (n := 2) hF (mx_copy l D cI cB h0 ad st N c (sv xs (i + 1)) (sv xs (i + 2)) (by omega) hI (sv_in _ _) (sv_in _ _)) (lw_V q132 q133 q134 q17 q135) (by decide +kernel) (by decide) hf rfl rfl [] rfl (by simp [Value.category]) dL_law_233 (fun a u hx => ?_)
  refine j_aload_n hF dL_law_236 rfl 2 rfl ?_
  refine j_aload_n hF dL_law_237 rfl 0 rfl ?_
  refine j_iload_n hF dL_law_238 rfl 3 rfl ?_
  refine j_iconst hF dL_law_239 ?_
  refine j_iadd hF dL_law_240 ?_
  refine j_sld hX hF dL_law_241 (by omega) (by omega) ?_
  refine j_aload_n hF dL_law_242 rfl 0 rfl ?_
  refine j_iload_n hF dL_law_243 rfl 3 rfl ?_
  refine j_iconst hF dL_law_244 ?_
  refine j_iadd hF dL_law_245 ?_
  refine j_sld hX hF dL_law_246 (by omega) (by omega) ?_
  refine j_callM (As := [iv (sv xs (i + 1)), iv (sv xs (i + 2))]) (n := 2) hF (mm_copy l D cI cB h1 bd pm (sv xs (i + 1)) (sv xs (i + 2)) hM (sv_in _ _) (sv_in _ _)) (lw_V q223 q224 q225 q18 q226) (by decide +kernel) (by decide) hf rfl rfl [iv a] rfl (by simp [Value.category]) dL_law_247 (fun a' v hm => ?_)
  obtain ⟨e, hn⟩ := join_copy h hx hm
  subst e
  exact j_same hF 409 dL_law_250 (by decide) (next u v hn)
set_option maxHeartbeats 4000000 in
/-- case 5: fsync -/
theorem cs_fsync (hF : JF E l cL_law R_law 4 room_1 D cI cB) (hX : JX E b L xs) (hL : L ≤ 256) (hf : ce ≤ 600000 ∧ sl ≤ 7290000) (i0 : 0 ≤ i) (i1 : i + 4 ≤ (L : Int)) (hN : N ≤ 800) (h : LInv N st pm) (next : ∀ u v : PS, LInv (N + 1) u v → J E ce sl (xw h0 ad cI cB u ++ mw h1 bd cI cB v) 409 [(0, .ref b), (1, .ref h0), (2, .ref h1), (3, iv i)] []) : J E ce sl (xw h0 ad cI cB st ++ mw h1 bd cI cB pm) 255 [(0, .ref b), (1, .ref h0), (2, .ref h1), (3, iv i)] [] := by
  obtain ⟨⟨c, hI⟩, hM, hR⟩ := id h
  refine j_aload_n hF dL_law_255 rfl 1 rfl ?_
  refine j_aload_n hF dL_law_256 rfl 0 rfl ?_
  refine j_iload_n hF dL_law_257 rfl 3 rfl ?_
  refine j_iconst hF dL_law_258 ?_
  refine j_iadd hF dL_law_259 ?_
  refine j_sld hX hF dL_law_260 (by omega) (by omega) ?_
  refine j_callX (As := [iv (sv xs (i + 1))]) (n := 1) hF (mx_fsync l D cI cB h0 ad st N c (sv xs (i + 1)) (by omega) hI (sv_in _ _)) (lw_V q136 q137 q138 q17 q139) (by decide +kernel) (by decide) hf rfl rfl [] rfl (by simp [Value.category]) dL_law_261 (fun a u hx => ?_)
  refine j_aload_n hF dL_law_264 rfl 2 rfl ?_
  refine j_aload_n hF dL_law_265 rfl 0 rfl ?_
  refine j_iload_n hF dL_law_266 rfl 3 rfl ?_
  refine j_iconst hF dL_law_267 ?_
  refine j_iadd hF dL_law_268 ?_
  refine j_sld hX hF dL_law_269 (by omega) (by omega) ?_
  refine j_callM (As := [iv (sv xs (i + 1))]) (n := 1) hF (mm_fsync l D cI cB h1 bd pm (sv xs (i + 1)) hM (sv_in _ _)) (lw_V q231 q232 q233 q18 q234) (by decide +kernel) (by decide) hf rfl rfl [iv a] rfl (by simp [Value.category]) dL_law_270 (fun a' v hm => ?_)
  obtain ⟨e, hn⟩ := join_fsync h hx hm
  subst e
  exact j_same hF 409 dL_law_273 (by decide) (next u v hn)
set_option maxHeartbeats 4000000 in
/-- case 6: sync -/
theorem cs_sync (hF : JF E l cL_law R_law 4 room_1 D cI cB) (hX : JX E b L xs) (hL : L ≤ 256) (hf : ce ≤ 600000 ∧ sl ≤ 7290000) (i0 : 0 ≤ i) (i1 : i + 4 ≤ (L : Int)) (hN : N ≤ 800) (h : LInv N st pm) (next : ∀ u v : PS, LInv (N + 1) u v → J E ce sl (xw h0 ad cI cB u ++ mw h1 bd cI cB v) 409 [(0, .ref b), (1, .ref h0), (2, .ref h1), (3, iv i)] []) : J E ce sl (xw h0 ad cI cB st ++ mw h1 bd cI cB pm) 278 [(0, .ref b), (1, .ref h0), (2, .ref h1), (3, iv i)] [] := by
  obtain ⟨⟨c, hI⟩, hM, hR⟩ := id h
  refine j_aload_n hF dL_law_278 rfl 1 rfl ?_
  refine j_callX (As := []) (n := 0) hF (mx_sync l D cI cB h0 ad st N c (by omega) hI) (lw_V q140 q141 q142 q17 q143) (by decide +kernel) (by decide) hf rfl rfl [] rfl (by simp [Value.category]) dL_law_279 (fun a u hx => ?_)
  refine j_aload_n hF dL_law_282 rfl 2 rfl ?_
  refine j_callM (As := []) (n := 0) hF (mm_sync l D cI cB h1 bd pm hM) (lw_V q243 q236 q237 q18 q238) (by decide +kernel) (by decide) hf rfl rfl [iv a] rfl (by simp [Value.category]) dL_law_283 (fun a' v hm => ?_)
  obtain ⟨e, hn⟩ := join_sync h hx hm
  subst e
  exact j_same hF 409 dL_law_286 (by decide) (next u v hn)
set_option maxHeartbeats 4000000 in
/-- case 7: crash -/
theorem cs_crash (hF : JF E l cL_law R_law 4 room_1 D cI cB) (hX : JX E b L xs) (hL : L ≤ 256) (hf : ce ≤ 600000 ∧ sl ≤ 7290000) (i0 : 0 ≤ i) (i1 : i + 4 ≤ (L : Int)) (hN : N ≤ 800) (h : LInv N st pm) (next : ∀ u v : PS, LInv (N + 1) u v → J E ce sl (xw h0 ad cI cB u ++ mw h1 bd cI cB v) 409 [(0, .ref b), (1, .ref h0), (2, .ref h1), (3, iv i)] []) : J E ce sl (xw h0 ad cI cB st ++ mw h1 bd cI cB pm) 291 [(0, .ref b), (1, .ref h0), (2, .ref h1), (3, iv i)] [] := by
  obtain ⟨⟨c, hI⟩, hM, hR⟩ := id h
  refine j_aload_n hF dL_law_291 rfl 1 rfl ?_
  refine j_callX (As := []) (n := 0) hF (mx_crash l D cI cB h0 ad st N c (by omega) hI) (lw_V q148 q149 q150 q17 q151) (by decide +kernel) (by decide) hf rfl rfl [] rfl (by simp [Value.category]) dL_law_292 (fun a u hx => ?_)
  refine j_aload_n hF dL_law_295 rfl 2 rfl ?_
  refine j_callM (As := []) (n := 0) hF (mm_crash l D cI cB h1 bd pm hM) (lw_V q244 q245 q246 q18 q247) (by decide +kernel) (by decide) hf rfl rfl [iv a] rfl (by simp [Value.category]) dL_law_296 (fun a' v hm => ?_)
  obtain ⟨e, hn⟩ := join_crash h hx hm
  subst e
  exact j_same hF 409 dL_law_299 (by decide) (next u v hn)
set_option maxHeartbeats 4000000 in
/-- case 8: exists -/
theorem cs_exists (hF : JF E l cL_law R_law 4 room_1 D cI cB) (hX : JX E b L xs) (hL : L ≤ 256) (hf : ce ≤ 600000 ∧ sl ≤ 7290000) (i0 : 0 ≤ i) (i1 : i + 4 ≤ (L : Int)) (hN : N ≤ 800) (h : LInv N st pm) (next : ∀ u v : PS, LInv (N + 1) u v → J E ce sl (xw h0 ad cI cB u ++ mw h1 bd cI cB v) 409 [(0, .ref b), (1, .ref h0), (2, .ref h1), (3, iv i)] []) : J E ce sl (xw h0 ad cI cB st ++ mw h1 bd cI cB pm) 304 [(0, .ref b), (1, .ref h0), (2, .ref h1), (3, iv i)] [] := by
  obtain ⟨⟨c, hI⟩, hM, hR⟩ := id h
  refine j_aload_n hF dL_law_304 rfl 1 rfl ?_
  refine j_aload_n hF dL_law_305 rfl 0 rfl ?_
  refine j_iload_n hF dL_law_306 rfl 3 rfl ?_
  refine j_iconst hF dL_law_307 ?_
  refine j_iadd hF dL_law_308 ?_
  refine j_sld hX hF dL_law_309 (by omega) (by omega) ?_
  refine j_callX (As := [iv (sv xs (i + 1))]) (n := 1) hF (mx_exists l D cI cB h0 ad st N c (sv xs (i + 1)) (by omega) hI (sv_in _ _)) (lw_V q156 q157 q158 q17 q159) (by decide +kernel) (by decide) hf rfl rfl [] rfl (by simp [Value.category]) dL_law_310 (fun a u hx => ?_)
  refine j_aload_n hF dL_law_313 rfl 2 rfl ?_
  refine j_aload_n hF dL_law_314 rfl 0 rfl ?_
  refine j_iload_n hF dL_law_315 rfl 3 rfl ?_
  refine j_iconst hF dL_law_316 ?_
  refine j_iadd hF dL_law_317 ?_
  refine j_sld hX hF dL_law_318 (by omega) (by omega) ?_
  refine j_callM (As := [iv (sv xs (i + 1))]) (n := 1) hF (mm_exists l D cI cB h1 bd pm (sv xs (i + 1)) hM (sv_in _ _)) (lw_V q248 q249 q250 q18 q251) (by decide +kernel) (by decide) hf rfl rfl [iv a] rfl (by simp [Value.category]) dL_law_319 (fun a' v hm => ?_)
  obtain ⟨e, hn⟩ := join_exists h hx hm.2
  subst e
  exact j_same hF 409 dL_law_322 (by decide) (next u v hn)
set_option maxHeartbeats 4000000 in
/-- case 9: size -/
theorem cs_size (hF : JF E l cL_law R_law 4 room_1 D cI cB) (hX : JX E b L xs) (hL : L ≤ 256) (hf : ce ≤ 600000 ∧ sl ≤ 7290000) (i0 : 0 ≤ i) (i1 : i + 4 ≤ (L : Int)) (hN : N ≤ 800) (h : LInv N st pm) (next : ∀ u v : PS, LInv (N + 1) u v → J E ce sl (xw h0 ad cI cB u ++ mw h1 bd cI cB v) 409 [(0, .ref b), (1, .ref h0), (2, .ref h1), (3, iv i)] []) : J E ce sl (xw h0 ad cI cB st ++ mw h1 bd cI cB pm) 327 [(0, .ref b), (1, .ref h0), (2, .ref h1), (3, iv i)] [] := by
  obtain ⟨⟨c, hI⟩, hM, hR⟩ := id h
  refine j_aload_n hF dL_law_327 rfl 1 rfl ?_
  refine j_aload_n hF dL_law_328 rfl 0 rfl ?_
  refine j_iload_n hF dL_law_329 rfl 3 rfl ?_
  refine j_iconst hF dL_law_330 ?_
  refine j_iadd hF dL_law_331 ?_
  refine j_sld hX hF dL_law_332 (by omega) (by omega) ?_
  refine j_callX (As := [iv (sv xs (i + 1))]) (n := 1) hF (mx_size l D cI cB h0 ad st N c (sv xs (i + 1)) (by omega) hI (sv_in _ _)) (lw_V q160 q161 q162 q17 q163) (by decide +kernel) (by decide) hf rfl rfl [] rfl (by simp [Value.category]) dL_law_333 (fun a u hx => ?_)
  refine j_aload_n hF dL_law_336 rfl 2 rfl ?_
  refine j_aload_n hF dL_law_337 rfl 0 rfl ?_
  refine j_iload_n hF dL_law_338 rfl 3 rfl ?_
  refine j_iconst hF dL_law_339 ?_
  refine j_iadd hF dL_law_340 ?_
  refine j_sld hX hF dL_law_341 (by omega) (by omega) ?_
  refine j_callM (As := [iv (sv xs (i + 1))]) (n := 1) hF (mm_size l D cI cB h1 bd pm (sv xs (i + 1)) hM (sv_in _ _)) (lw_V q252 q253 q254 q18 q255) (by decide +kernel) (by decide) hf rfl rfl [iv a] rfl (by simp [Value.category]) dL_law_342 (fun a' v hm => ?_)
  obtain ⟨e, hn⟩ := join_size h hx hm
  subst e
  exact j_same hF 409 dL_law_345 (by decide) (next u v hn)
set_option maxHeartbeats 4000000 in
/-- case 10: read -/
theorem cs_read (hF : JF E l cL_law R_law 4 room_1 D cI cB) (hX : JX E b L xs) (hL : L ≤ 256) (hf : ce ≤ 600000 ∧ sl ≤ 7290000) (i0 : 0 ≤ i) (i1 : i + 4 ≤ (L : Int)) (hN : N ≤ 800) (h : LInv N st pm) (next : ∀ u v : PS, LInv (N + 1) u v → J E ce sl (xw h0 ad cI cB u ++ mw h1 bd cI cB v) 409 [(0, .ref b), (1, .ref h0), (2, .ref h1), (3, iv i)] []) : J E ce sl (xw h0 ad cI cB st ++ mw h1 bd cI cB pm) 350 [(0, .ref b), (1, .ref h0), (2, .ref h1), (3, iv i)] [] := by
  obtain ⟨⟨c, hI⟩, hM, hR⟩ := id h
  refine j_aload_n hF dL_law_350 rfl 1 rfl ?_
  refine j_aload_n hF dL_law_351 rfl 0 rfl ?_
  refine j_iload_n hF dL_law_352 rfl 3 rfl ?_
  refine j_iconst hF dL_law_353 ?_
  refine j_iadd hF dL_law_354 ?_
  refine j_sld hX hF dL_law_355 (by omega) (by omega) ?_
  refine j_aload_n hF dL_law_356 rfl 0 rfl ?_
  refine j_iload_n hF dL_law_357 rfl 3 rfl ?_
  refine j_iconst hF dL_law_358 ?_
  refine j_iadd hF dL_law_359 ?_
  refine j_sld hX hF dL_law_360 (by omega) (by omega) ?_
  refine j_callX (As := [iv (sv xs (i + 1)), iv (sv xs (i + 2))]) (n := 2) hF (mx_read l D cI cB h0 ad st N c (sv xs (i + 1)) (sv xs (i + 2)) (by omega) hI (sv_in _ _) (sv_in _ _)) (lw_V q164 q165 q166 q17 q167) (by decide +kernel) (by decide) hf rfl rfl [] rfl (by simp [Value.category]) dL_law_361 (fun a u hx => ?_)
  refine j_aload_n hF dL_law_364 rfl 2 rfl ?_
  refine j_aload_n hF dL_law_365 rfl 0 rfl ?_
  refine j_iload_n hF dL_law_366 rfl 3 rfl ?_
  refine j_iconst hF dL_law_367 ?_
  refine j_iadd hF dL_law_368 ?_
  refine j_sld hX hF dL_law_369 (by omega) (by omega) ?_
  refine j_aload_n hF dL_law_370 rfl 0 rfl ?_
  refine j_iload_n hF dL_law_371 rfl 3 rfl ?_
  refine j_iconst hF dL_law_372 ?_
  refine j_iadd hF dL_law_373 ?_
  refine j_sld hX hF dL_law_374 (by omega) (by omega) ?_
  refine j_callM (As := [iv (sv xs (i + 1)), iv (sv xs (i + 2))]) (n := 2) hF (mm_read l D cI cB h1 bd pm (sv xs (i + 1)) (sv xs (i + 2)) hM (sv_in _ _) (sv_in _ _)) (lw_V q256 q257 q258 q18 q259) (by decide +kernel) (by decide) hf rfl rfl [iv a] rfl (by simp [Value.category]) dL_law_375 (fun a' v hm => ?_)
  obtain ⟨e, hn⟩ := join_read h hx hm
  subst e
  exact j_same hF 409 dL_law_378 (by decide) (next u v hn)
set_option maxHeartbeats 4000000 in
/-- case 11: uns -/
theorem cs_uns (hF : JF E l cL_law R_law 4 room_1 D cI cB) (hX : JX E b L xs) (hL : L ≤ 256) (hf : ce ≤ 600000 ∧ sl ≤ 7290000) (i0 : 0 ≤ i) (i1 : i + 4 ≤ (L : Int)) (hN : N ≤ 800) (h : LInv N st pm) (next : ∀ u v : PS, LInv (N + 1) u v → J E ce sl (xw h0 ad cI cB u ++ mw h1 bd cI cB v) 409 [(0, .ref b), (1, .ref h0), (2, .ref h1), (3, iv i)] []) : J E ce sl (xw h0 ad cI cB st ++ mw h1 bd cI cB pm) 383 [(0, .ref b), (1, .ref h0), (2, .ref h1), (3, iv i)] [] := by
  obtain ⟨⟨c, hI⟩, hM, hR⟩ := id h
  refine j_aload_n hF dL_law_383 rfl 1 rfl ?_
  refine j_callX (As := []) (n := 0) hF (mx_uns l D cI cB h0 ad st N c (by omega) hI) (lw_V q168 q169 q170 q17 q171) (by decide +kernel) (by decide) hf rfl rfl [] rfl (by simp [Value.category]) dL_law_384 (fun a u hx => ?_)
  refine j_aload_n hF dL_law_387 rfl 2 rfl ?_
  refine j_callM (As := []) (n := 0) hF (mm_uns l D cI cB h1 bd pm hM) (lw_V q261 q262 q263 q18 q264) (by decide +kernel) (by decide) hf rfl rfl [iv a] rfl (by simp [Value.category]) dL_law_388 (fun a' v hm => ?_)
  obtain ⟨e, hn⟩ := join_uns h hx hm
  subst e
  exact j_same hF 409 dL_law_391 (by decide) (next u v hn)
set_option maxHeartbeats 4000000 in
/-- case 12: digest -/
theorem cs_digest (hF : JF E l cL_law R_law 4 room_1 D cI cB) (hX : JX E b L xs) (hL : L ≤ 256) (hf : ce ≤ 600000 ∧ sl ≤ 7290000) (i0 : 0 ≤ i) (i1 : i + 4 ≤ (L : Int)) (hN : N ≤ 800) (h : LInv N st pm) (next : ∀ u v : PS, LInv (N + 1) u v → J E ce sl (xw h0 ad cI cB u ++ mw h1 bd cI cB v) 409 [(0, .ref b), (1, .ref h0), (2, .ref h1), (3, iv i)] []) : J E ce sl (xw h0 ad cI cB st ++ mw h1 bd cI cB pm) 396 [(0, .ref b), (1, .ref h0), (2, .ref h1), (3, iv i)] [] := by
  obtain ⟨⟨c, hI⟩, hM, hR⟩ := id h
  refine j_aload_n hF dL_law_396 rfl 1 rfl ?_
  refine j_callX (As := []) (n := 0) hF (mx_digest l D cI cB h0 ad st N c (by omega) hI) (lw_V q176 q177 q178 q17 q179) (by decide +kernel) (by decide) hf rfl rfl [] rfl (by simp [Value.category]) dL_law_397 (fun a u hx => ?_)
  refine j_aload_n hF dL_law_400 rfl 2 rfl ?_
  refine j_callM (As := []) (n := 0) hF (mm_digest l D cI cB h1 bd pm hM) (lw_V q269 q270 q271 q18 q272) (by decide +kernel) (by decide) hf rfl rfl [iv a] rfl (by simp [Value.category]) dL_law_401 (fun a' v hm => ?_)
  obtain ⟨e, hn⟩ := join_digest h hx hm
  subst e
  exact j_same hF 409 dL_law_404 (by decide) (next u v hn)
end
end
section
/-! THE LAW'S LOOP and its start (written by gen/m_law.py) -/
set_option maxRecDepth 100000
theorem LInv_0 {u : PS} (h : ixP u) : LInv 1 u z0 := by
  refine ⟨⟨0, h.1⟩, ⟨fun g _ _ => ⟨Or.inl rfl, Int.le_refl 0, show (0 : Int) ≤ 4 by decide⟩, fun f _ _ => Or.inl rfl⟩, fun f f0 f1 => ?_⟩
  obtain ⟨e1, e2, e3⟩ := h.2 f f0 f1
  exact ⟨Or.inl ⟨e1, rfl⟩, Or.inl ⟨e2, rfl⟩, e3.symm⟩
section
variable {E : JE} {l : Launch} {D : va_G} {cI cB : ClassId} {ce sl : Nat} {h0 h1 : Nat} {ad bd : Nat → Nat} {b L : Nat} {xs : Nat → Int32}
set_option maxHeartbeats 4000000 in
theorem law_loop (hF : JF E l cL_law R_law 4 room_1 D cI cB) (hX : JX E b L xs) (hL : L ≤ 256) (hf : ce ≤ 600000 ∧ sl ≤ 7290000) (fin : ∀ (ws : va_W) (lv : List (Nat × Value)), J E ce sl ws 416 lv [iv 1]) :
    ∀ (n : Nat) (i : Int) (st pm : PS), 257 - i < (n : Int) → 0 ≤ i → i ≤ 256 → LInv (i + 1) st pm → J E ce sl (xw h0 ad cI cB st ++ mw h1 bd cI cB pm) 18 [(0, .ref b), (1, .ref h0), (2, .ref h1), (3, iv i)] [] := by
  intro n
  induction n with
  | zero => intro i st pm hm i0 i1 h; omega
  | succ n ih =>
    intro i st pm hm i0 i1 h
    refine j_iload_n hF dL_law_18 rfl 3 rfl ?_
    refine j_aload_n hF dL_law_19 rfl 0 rfl ?_
    refine j_slen hX hF dL_law_20 ?_
    refine j_iconst hF dL_law_21 ?_
    refine j_isub hF dL_law_22 ?_
    refine j_icmp_gt hF 415 dL_law_23 (by decide) (by omega) (by omega) (fun c1 => ?_) (fun c1 => ?_)
    · refine j_iconst hF dL_law_415 ?_
      exact fin _ _
    · have i4 : i + 4 ≤ (L : Int) := by omega
      have hN : i + 1 ≤ 800 := by omega
      have next : ∀ u v : PS, LInv (i + 1 + 1) u v → J E ce sl (xw h0 ad cI cB u ++ mw h1 bd cI cB v) 409 [(0, .ref b), (1, .ref h0), (2, .ref h1), (3, iv i)] [] := by
        intro u v huv
        refine j_iinc hF [(0, .ref b), (1, .ref h0), (2, .ref h1), (3, iv (i + 4))] dL_law_409 3 rfl (by decide) [1, 2, 3, 0] rfl ?_
        refine j_goto hF 18 dL_law_412 (by decide) ?_
        refine ih (i + 4) u v (by omega) (by omega) (by omega) ?_
        have e := huv.up.up.up
        rwa [show i + 1 + 1 + 1 + 1 + 1 = i + 4 + 1 by omega] at e
      refine j_aload_n hF dL_law_26 rfl 0 rfl ?_
      refine j_iload_n hF dL_law_27 rfl 3 rfl ?_
      refine j_sld hX hF dL_law_28 (by omega) (by omega) ?_
      refine j_bipush hF dL_law_29 (by decide) ?_
      refine j_and15 hF dL_law_31 ?_
      have r0 : 0 ≤ sv xs i % 16 := Int.emod_nonneg _ (by decide)
      have r1 : sv xs i % 16 < 16 := Int.emod_lt_of_pos _ (by decide)
      generalize sv xs i % 16 = a at r0 r1 ⊢
      have ha : a = 0 ∨ a = 1 ∨ a = 2 ∨ a = 3 ∨ a = 4 ∨ a = 5 ∨ a = 6 ∨ a = 7 ∨ a = 8 ∨ a = 9 ∨ a = 10 ∨ a = 11 ∨ a = 12 ∨ 12 < a := by omega
      rcases ha with rfl | rfl | rfl | rfl | rfl | rfl | rfl | rfl | rfl | rfl | rfl | rfl | rfl | ha
      · exact j_tabIn 100 hF dL_law_32 (by decide) (by decide) (by decide) rfl (by decide) (cs_create hF hX hL hf i0 i4 hN h next)
      · exact j_tabIn 123 hF dL_law_32 (by decide) (by decide) (by decide) rfl (by decide) (cs_remove hF hX hL hf i0 i4 hN h next)
      · exact j_tabIn 146 hF dL_law_32 (by decide) (by decide) (by decide) rfl (by decide) (cs_write hF hX hL hf i0 i4 hN h next)
      · exact j_tabIn 189 hF dL_law_32 (by decide) (by decide) (by decide) rfl (by decide) (cs_truncate hF hX hL hf i0 i4 hN h next)
      · exact j_tabIn 222 hF dL_law_32 (by decide) (by decide) (by decide) rfl (by decide) (cs_copy hF hX hL hf i0 i4 hN h next)
      · exact j_tabIn 255 hF dL_law_32 (by decide) (by decide) (by decide) rfl (by decide) (cs_fsync hF hX hL hf i0 i4 hN h next)
      · exact j_tabIn 278 hF dL_law_32 (by decide) (by decide) (by decide) rfl (by decide) (cs_sync hF hX hL hf i0 i4 hN h next)
      · exact j_tabIn 291 hF dL_law_32 (by decide) (by decide) (by decide) rfl (by decide) (cs_crash hF hX hL hf i0 i4 hN h next)
      · exact j_tabIn 304 hF dL_law_32 (by decide) (by decide) (by decide) rfl (by decide) (cs_exists hF hX hL hf i0 i4 hN h next)
      · exact j_tabIn 327 hF dL_law_32 (by decide) (by decide) (by decide) rfl (by decide) (cs_size hF hX hL hf i0 i4 hN h next)
      · exact j_tabIn 350 hF dL_law_32 (by decide) (by decide) (by decide) rfl (by decide) (cs_read hF hX hL hf i0 i4 hN h next)
      · exact j_tabIn 383 hF dL_law_32 (by decide) (by decide) (by decide) rfl (by decide) (cs_uns hF hX hL hf i0 i4 hN h next)
      · exact j_tabIn 396 hF dL_law_32 (by decide) (by decide) (by decide) rfl (by decide) (cs_digest hF hX hL hf i0 i4 hN h next)
      · exact j_tabOut 409 hF dL_law_32 (by omega) (Or.inr ha) (by decide) (next st pm h.up)
end
set_option maxHeartbeats 4000000 in
/-- THE LAW, from its entry -/
theorem whole_start {p : Program} {e : Env} {s : State} {m : MethodId} {below : List Frame} {meth : Method} {c : Code} (l : Launch) {b L : Nat} {xs : Nat → Int32} (hL : L ≤ 256) (C0 : lw_At p s m meth c b L xs) : W p l e room_1 s m #[Value.ref b] below meth c s.heap [] 0 0 (lw_Z below #[Value.ref b] s) (entryFrame m ([Value.ref b] : List Value).toArray 4) := by
  obtain ⟨hx, hb, hr, hml, hown, hts, hX, hbl, hlocks, hgv⟩ := id C0
  have hts1 : ∀ w ∈ lw_all, w.before #[Value.ref b] s = true := fun w h => hts w (lw_all_tbl h)
  obtain ⟨c0, iS0, hKn0⟩ := u_known (C := RX0) (T := TX0) (N := 18) (n := 18) hts1 in_X0 (hts1 _ q20)
  obtain ⟨c1, iS1, hKn1⟩ := u_known (C := RX1) (T := TX1) (N := 4) (n := 4) hts1 in_X1 (hts1 _ q181)
  obtain ⟨D, hKc⟩ : ∃ D : va_G, ∀ (k : Nat) (q : vw_C), vwCl[k]? = some q → u_Kn s q.1 q.2.1 q.2.2 (D.1 k) (D.2 k) := by
    refine ⟨(fun k => if k = 0 then c0 else c1, fun k => if k = 0 then iS0 else iS1), ?_⟩
    intro k q hq
    match k, hq with
    | 0, hq => cases hq; exact hKn0
    | 1, hq => cases hq; exact hKn1
    | k + 2, hq => simp [vwCl] at hq
  obtain ⟨cI, kI, compI, fI, hkI, hdI⟩ := Cond.arrayClass_spec (hts1 _ q106)
  obtain ⟨cB, kB, compB, fB, hkB, hdB⟩ := Cond.arrayClass_spec (hts1 _ q107)
  have hK : va_K D vwCl [(cI, .int), (cB, .boolean)] s := by
    refine ⟨hKc, fun k q hq => ?_⟩
    match k, hq with
    | 0, hq => cases hq; exact ⟨fun n z => ⟨fun k h => (by cases h), kI, hkI, compI, hdI⟩, fI⟩
    | 1, hq => cases hq; exact ⟨fun n z => ⟨fun k h => (by cases h), kB, hkB, compB, hdB⟩, fB⟩
    | k + 2, hq => simp at hq
  have hS : va_S (fun q : Nat => s.heap.size ≤ q) s.heap s.heap [] := va_S.rf
  have hP : va_P D vwCl [] s.heap := fun k q h => by simp at h
  have hD : va_D (fun q : Nat => s.heap.size ≤ q) [] := ⟨fun i j p q h => by simp at h, fun k q h => by simp at h⟩
  have hl := lv_entry ([.ref b]) (n := 4) (Nat.le_of_ble_eq_true rfl)
  rw [lg_entry_eq]
  generalize (lg_sl ([.ref b]) ++ List.replicate (4 - (lg_sl ([.ref b])).length) Slot.unset).toArray = ls at hl ⊢
  have hl : lv_has ls 4 [(0, .ref b)] := hl
  obtain ⟨E, hE⟩ : ∃ E : JE, E = (p, l, e, room_1, s, m, #[Value.ref b], below, meth, c, 4, lw_Z below #[Value.ref b] s, D, fun q : Nat => s.heap.size ≤ q) := ⟨_, rfl⟩
  have hF : JF E l cL_law R_law 4 room_1 D cI cB := by
    rw [hE]; exact ⟨hx, hb, rfl, hml, rfl, rfl, rfl, hown, hts1, hK, fun _ h => h, hlocks⟩
  have hJX : JX E b L xs := by
    rw [hE]; exact ⟨hX, hbl, Nat.not_le.mpr hbl⟩
  have fin : ∀ (ws : va_W) (lv : List (Nat × Value)), J E 20 1416 ws 416 lv [iv 1] := by
    intro ws lv
    rw [hE]
    intro H locs ls hP hD hS hl
    refine va_forget (fun q hq => hS.2.2 q hq) ?_
    refine W.widen (k := 600000) (n := 7290000) (Nat.le_of_ble_eq_true rfl) (Nat.le_of_ble_eq_true rfl) ?_
    exact lw_ret hx hb hr hlocks dL_law_416
  have go : J E 0 0 [] 0 [(0, .ref b)] [] := by
    refine j_new (C := RX0) (T := TX0) (N := 18) (ci := 0) (fs := [.null, .null, .null, .null, .null, .null, .null, .null, .null, .null, .null, .null, .null, iv 0, iv 0, iv 0, iv 0, .null]) in_X0 tyX0 tyX0_ok q19 q20 q17 rfl (fun j hj => by rcases (show j = 0 ∨ j = 1 ∨ j = 2 ∨ j = 3 ∨ j = 4 ∨ j = 5 ∨ j = 6 ∨ j = 7 ∨ j = 8 ∨ j = 9 ∨ j = 10 ∨ j = 11 ∨ j = 12 ∨ j = 13 ∨ j = 14 ∨ j = 15 ∨ j = 16 ∨ j = 17 by omega) with rfl | rfl | rfl | rfl | rfl | rfl | rfl | rfl | rfl | rfl | rfl | rfl | rfl | rfl | rfl | rfl | rfl | rfl <;> rfl) hF (Nat.le_of_ble_eq_true rfl) (Nat.le_of_ble_eq_true rfl) dL_law_0 (fun h0 => ?_)
    refine j_dup hF dL_law_3 rfl ?_
    refine j_callC (As := []) (n := 0) (w0 := xw0 h0) (wr := []) hF (mx_init l D cI cB h0) q21 q22 q17 q23 rfl (by decide +kernel) (by decide) ⟨Nat.le_of_ble_eq_true rfl, Nat.le_of_ble_eq_true rfl⟩ rfl [0] [] rfl rfl rfl (by decide) (by decide) (by decide) [.ref h0] rfl (by simp [Value.category]) dL_law_4 (fun ad u hu => ?_)
    refine j_w (ws' := xw h0 ad cI cB u) rfl ?_
    refine j_astore_n hF [(0, .ref b), (1, .ref h0)] dL_law_7 rfl (by decide) [1, 0] rfl ?_
    refine j_new (C := RX1) (T := TX1) (N := 4) (ci := 1) (fs := [.null, .null, .null, .null]) in_X1 tyX1 tyX1_ok q180 q181 q18 rfl (fun j hj => by rcases (show j = 0 ∨ j = 1 ∨ j = 2 ∨ j = 3 by omega) with rfl | rfl | rfl | rfl <;> rfl) hF (Nat.le_of_ble_eq_true rfl) (Nat.le_of_ble_eq_true rfl) dL_law_8 (fun h1 => ?_)
    refine j_dup hF dL_law_11 rfl ?_
    refine j_callC (As := []) (n := 0) (w0 := mw0 h1) (wr := xw h0 ad cI cB u) hF (mm_init l D cI cB h1) q182 q183 q18 q184 rfl (by decide +kernel) (by decide) ⟨Nat.le_of_ble_eq_true rfl, Nat.le_of_ble_eq_true rfl⟩ rfl [15] [0, 1, 2, 3, 4, 5, 6, 7, 8, 9, 10, 11, 12, 13, 14] rfl rfl rfl (by decide) (by decide) (by decide) [.ref h1] rfl (by simp [Value.category]) dL_law_12 (fun bd v hv => ?_)
    subst hv
    refine j_astore_n hF [(0, .ref b), (1, .ref h0), (2, .ref h1)] dL_law_15 rfl (by decide) [1, 2, 0] rfl ?_
    refine j_iconst hF dL_law_16 ?_
    refine j_istore_n hF [(0, .ref b), (1, .ref h0), (2, .ref h1), (3, iv 0)] dL_law_17 rfl (by decide) [1, 2, 3, 0] rfl ?_
    exact law_loop hF hJX hL ⟨Nat.le_of_ble_eq_true rfl, Nat.le_of_ble_eq_true rfl⟩ fin 258 0 u z0 (by omega) (by omega) (by omega) (LInv_0 hu)
  rw [hE] at go
  exact go s.heap [] ls hP hD hS hl
end
section
/-! the skeleton's end (a starting text) -/
set_option maxHeartbeats 4000000 in
theorem lw_walk (l : Launch) (b : Addr) (xs : List Int32) : MetFree l x (headSpec (Jvm.Cond.code x code maxLocals ret :: tables_1) room_1) (lw_P b xs) (fun _ _ _ _ _ => True) lw_Q := by
  refine MetFree.of_bodyS (code := code) (maxLocals := maxLocals) (ret := ret) (by decide) ?_ ?_
  · intro args s m h hn
    obtain ⟨meth, c, h1, h2, h3, h4, h5, h6, -, -⟩ := Cond.code_spec hn (atoms_spec (ws := Jvm.Cond.code x code maxLocals ret :: tables_1) h _ List.mem_cons_self)
    exact ⟨meth, c, h1, h2, h3, h4, h5, h6⟩
  · intro p e s m args below meth c s₁ B hml0 hP _
    obtain ⟨rfl, hx, hbd, hgv⟩ := hP
    obtain ⟨scr, harrAt, hlist, hof, hsmall⟩ := hx
    obtain ⟨hcb, hkn, -, -⟩ := State.arrayAt?_spec harrAt
    have hown : s.vm.findClass R_law = some m.cls := findClass_of_methodNamed B.named
    have hts0 : ∀ c ∈ (Jvm.Cond.code x code maxLocals ret :: tables_1), c.before #[Value.ref b] s = true := atoms_spec (ws := Jvm.Cond.code x code maxLocals ret :: tables_1) B.pre
    have hts : ∀ w ∈ lw_tbl, w.before #[Value.ref b] s = true := k2_hts_sels lw_privs (fun w hw => hts0 w (List.mem_cons_of_mem _ hw)) lw_privs_ok
    have hml : c.maxLocals = 4 := B.maxLocals_eq (hts0 _ List.mem_cons_self)
    have X₀ : Stand p l e room_1 s m #[Value.ref b] below meth c s₁ [] 0 0 := Stand.of_body B
    have hh0 : s₁.heap = s.heap := by rw [B.state]; rfl
    have hsz : scr.slots.size = xs.length := by rw [← Array.length_toList, hlist, List.length_map]
    have hval : ∀ j : Nat, j < xs.length → scr.slots[j]? = some (.int (xs.getD j 0)) := fun j hj => by
      rw [← Array.getElem?_toList, hlist]
      simp [hj]
    have hbl : b < s.heap.size := (Array.getElem?_eq_some_iff.mp hcb).1
    have hX : va_X b xs.length (fun j => xs.getD j 0) s s.heap := ⟨scr, hcb, hof, hkn, hsz, hval⟩
    have K : W p l e room_1 s m #[Value.ref b] below meth c s₁.heap [] 0 0 (lw_Z below #[Value.ref b] s) (entryFrame m ([Value.ref b] : List Value).toArray 4) := by
      rw [hh0]
      exact whole_start l hbd ⟨B.exec, B.bytes, B.returns, hml, hown, hts, hX, hbl, B.notSynchronized, hgv⟩
    obtain ⟨t, a1, o, b1, b2, b3⟩ := K s₁ rfl X₀
    exact ⟨t, o, a1, b1, b2, b3⟩
theorem lw_pre_spec {args : Array Value} {s : State} (h : (Jvm.Cond.and given_1 narrow_1).before args s = true) (hr : rest_1_c.before args s = true) : ∃ (b : Addr) (xs : List Int32), lw_P b xs args s := by
  have hs := flat_of_before _ h
  have hq := flat_of_before _ hr
  have hc : (Cond.count 1).before args s = true := hs _ (by decide +kernel)
  have harr : (Cond.arrayOf (.arg 0) .int).before args s = true := hs _ (by decide +kernel)
  have hle : (Cond.le (.length (.arg 0)) (.int 256)).before args s = true := hs _ (by decide +kernel)
  have hlen : (Cond.isInt (.length (.arg 0))).before args s = true := hq _ (by decide +kernel)
  have hall : (Cond.all (.arg 0) (.isInt (.elem (.arg 0) (.index 0)))).before args s = true := hq _ (by decide +kernel)
  obtain ⟨b, xs, hb, hx⟩ := State.ints_of_pre rfl harr hlen hall
  have hsm : xs.length < 2 ^ 31 := hx.choose_spec.2.2.2
  have hev : (Term.length (.arg 0)).eval args s none [] s = some (.int xs.length.toInt32) := hx.length_eval hb
  have hv := Cond.le_ints hev (show (Term.int 256).eval args s none [] s = some (.int 256) from rfl)
  have hd : xs.length.toInt32 ≤ 256 := by
    simpa [Cond.before, Cond.holds, hv] using hle
  have hN : xs.length ≤ 256 := (Int32.ofNat_le_ofNat hsm (by decide)).mp (show Int32.ofNat xs.length ≤ Int32.ofNat 256 from hd)
  exact ⟨b, xs, Cond.one_arg hc (show args[0]? = some (.ref b) from hb), hx, hN, h⟩
theorem lw_comes (l : Launch) : Comes l x (Jvm.Cond.code x code maxLocals ret :: tables_1) room_1 (fun tb e args s => Calls_1 tb e args s ∧ rest_1 tb e args s ∧ Pre_1 tb e args s)
    (fun _ _ args s o t => lw_Q args s o t) := by
  intro p e ha hc hk s m args below hf hfit hheap happ hpre
  obtain ⟨b, xs, hP⟩ := lw_pre_spec hpre.2.2 hpre.2.1
  obtain ⟨k, o, h1, h2, h3, hQ⟩ := lw_walk l b xs p e ha hc hk s m args below hf ((Spec.applies_iff_loose hf).mp happ).1 hP trivial
  exact ⟨k, o, h1, h2, h3, hQ⟩
theorem lw_frame {s t : State} {o : Outcome} {args : Array Value} (h : Framed s o t [] 600000 7290000) :
    Framed s o t (fieldLocs frame_1_writes args s ++ arrayLocs frame_1_arrays args s ++ staticLocs frame_1_statics s) 600000 7290000 := h
theorem lw_limb (L : Cond) (hL : ∀ (args : Array Value) (s t : State), L.after args s (.returned (some (.int 1))) t = true) :
    ArmFor flags0 classFile x code maxLocals ret World_1 tables_1 room_1 Calls_1 rest_1 Pre_1
      (fun tb e a s o t => postC L tb e a s o t ∧ Framed s o t (fieldLocs frame_1_writes a s ++ arrayLocs frame_1_arrays a s ++ staticLocs frame_1_statics s) 600000 7290000) := by
  intro l _ _ _ p e ha hc hk s m args below hf hfit hheap happ hpre
  obtain ⟨k, o, h1, h2, h3, rfl, hF⟩ := lw_comes l p e ha hc hk s m args below hf hfit hheap happ hpre
  exact ⟨k, _, h1, h2, h3, hL args s _, lw_frame hF⟩
theorem i_vc : Claimed_1_1 ∧ Claimed_1_2 := ⟨lw_limb limb_1_1 (fun args s t => by simp [limb_1_1, Cond.after, Cond.holds, Cond.value]), lw_limb limb_1_2 (fun args s t => Cond.after_iff.mpr (by
  first | (rw [show limb_1_2 = Cond.eq .result (.int 1) from rfl, Cond.eq_ints (x := 1) (y := 1) rfl rfl]; simp; done) | (simp [limb_1_2, Cond.value, Term.eval]; done)))⟩
end
