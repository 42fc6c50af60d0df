section
-- ===== PART A: goes FIRST, ahead of the names: the tables' words, and 'selects' of the private methods out of them =====
/-- a private method of a class that the tables say can be made, by its rows of tables_1 -/
def lw_okq (q : MethodName × Nat) : Prop := (q.1.cls ≠ "java/lang/invoke/MethodHandle" ∧ q.1.cls ≠ "java/lang/invoke/VarHandle") ∧ Cond.instantiable q.1.cls q.2 ∈ tables_1 ∧ Cond.privateMethod q.1 ∈ tables_1 ∧ Cond.instanceMethod q.1 ∈ tables_1
set_option maxRecDepth 100000
theorem lw_p0 : lw_okq (⟨"TextReplica", "insertAt", "(II)I"⟩, 16) := ⟨⟨by decide +kernel, by decide +kernel⟩, List.mem_of_getElem? (i := 4) rfl, List.mem_of_getElem? (i := 70) rfl, List.mem_of_getElem? (i := 71) rfl⟩
theorem lw_p1 : lw_okq (⟨"TextReplica", "newChange", "(IZ)I"⟩, 16) := ⟨⟨by decide +kernel, by decide +kernel⟩, List.mem_of_getElem? (i := 4) rfl, List.mem_of_getElem? (i := 74) rfl, List.mem_of_getElem? (i := 75) rfl⟩
theorem lw_p2 : lw_okq (⟨"TextReplica", "learn", "(II)V"⟩, 16) := ⟨⟨by decide +kernel, by decide +kernel⟩, List.mem_of_getElem? (i := 4) rfl, List.mem_of_getElem? (i := 78) rfl, List.mem_of_getElem? (i := 79) rfl⟩
theorem lw_p3 : lw_okq (⟨"TextReplica", "putInRow", "(II)V"⟩, 16) := ⟨⟨by decide +kernel, by decide +kernel⟩, List.mem_of_getElem? (i := 4) rfl, List.mem_of_getElem? (i := 82) rfl, List.mem_of_getElem? (i := 83) rfl⟩
theorem lw_p4 : lw_okq (⟨"TextReplica", "isGreater", "(II)Z"⟩, 16) := ⟨⟨by decide +kernel, by decide +kernel⟩, List.mem_of_getElem? (i := 4) rfl, List.mem_of_getElem? (i := 86) rfl, List.mem_of_getElem? (i := 87) rfl⟩
theorem lw_p5 : lw_okq (⟨"TextReplica", "takeAway", "(II)V"⟩, 16) := ⟨⟨by decide +kernel, by decide +kernel⟩, List.mem_of_getElem? (i := 4) rfl, List.mem_of_getElem? (i := 90) rfl, List.mem_of_getElem? (i := 91) rfl⟩
theorem lw_p6 : lw_okq (⟨"TextReplica", "isKnown", "(II)Z"⟩, 16) := ⟨⟨by decide +kernel, by decide +kernel⟩, List.mem_of_getElem? (i := 4) rfl, List.mem_of_getElem? (i := 102) rfl, List.mem_of_getElem? (i := 103) rfl⟩
theorem lw_p7 : lw_okq (⟨"TextReplica", "shown", "(II)I"⟩, 16) := ⟨⟨by decide +kernel, by decide +kernel⟩, List.mem_of_getElem? (i := 4) rfl, List.mem_of_getElem? (i := 130) rfl, List.mem_of_getElem? (i := 131) rfl⟩
theorem lw_p8 : lw_okq (⟨"TextReplicaModel", "lay", "(I)V"⟩, 9) := ⟨⟨by decide +kernel, by decide +kernel⟩, List.mem_of_getElem? (i := 134) rfl, List.mem_of_getElem? (i := 175) rfl, List.mem_of_getElem? (i := 176) rfl⟩
theorem lw_p9 : lw_okq (⟨"TextReplicaModel", "following", "(III)I"⟩, 9) := ⟨⟨by decide +kernel, by decide +kernel⟩, List.mem_of_getElem? (i := 134) rfl, List.mem_of_getElem? (i := 179) rfl, List.mem_of_getElem? (i := 180) rfl⟩
theorem lw_p10 : lw_okq (⟨"TextReplicaModel", "inRow", "(II)Z"⟩, 9) := ⟨⟨by decide +kernel, by decide +kernel⟩, List.mem_of_getElem? (i := 134) rfl, List.mem_of_getElem? (i := 183) rfl, List.mem_of_getElem? (i := 184) rfl⟩
theorem lw_p11 : lw_okq (⟨"TextReplicaModel", "greater", "(II)Z"⟩, 9) := ⟨⟨by decide +kernel, by decide +kernel⟩, List.mem_of_getElem? (i := 134) rfl, List.mem_of_getElem? (i := 187) rfl, List.mem_of_getElem? (i := 188) rfl⟩
theorem lw_p12 : lw_okq (⟨"TextReplicaModel", "gone", "(II)Z"⟩, 9) := ⟨⟨by decide +kernel, by decide +kernel⟩, List.mem_of_getElem? (i := 134) rfl, List.mem_of_getElem? (i := 191) rfl, List.mem_of_getElem? (i := 192) rfl⟩
theorem lw_p13 : lw_okq (⟨"TextReplicaModel", "next", "(II)I"⟩, 9) := ⟨⟨by decide +kernel, by decide +kernel⟩, List.mem_of_getElem? (i := 134) rfl, List.mem_of_getElem? (i := 195) rfl, List.mem_of_getElem? (i := 196) rfl⟩
theorem lw_p14 : lw_okq (⟨"TextReplicaModel", "make", "(IZII)I"⟩, 9) := ⟨⟨by decide +kernel, by decide +kernel⟩, List.mem_of_getElem? (i := 134) rfl, List.mem_of_getElem? (i := 199) rfl, List.mem_of_getElem? (i := 200) rfl⟩
theorem lw_p15 : lw_okq (⟨"TextReplicaModel", "greatest", "(I)I"⟩, 9) := ⟨⟨by decide +kernel, by decide +kernel⟩, List.mem_of_getElem? (i := 134) rfl, List.mem_of_getElem? (i := 203) rfl, List.mem_of_getElem? (i := 204) rfl⟩
def lw_privs_1 : List (MethodName × Nat) := [(⟨"TextReplica", "insertAt", "(II)I"⟩, 16), (⟨"TextReplica", "newChange", "(IZ)I"⟩, 16), (⟨"TextReplica", "learn", "(II)V"⟩, 16), (⟨"TextReplica", "putInRow", "(II)V"⟩, 16), (⟨"TextReplica", "isGreater", "(II)Z"⟩, 16), (⟨"TextReplica", "takeAway", "(II)V"⟩, 16), (⟨"TextReplica", "isKnown", "(II)Z"⟩, 16), (⟨"TextReplica", "shown", "(II)I"⟩, 16), (⟨"TextReplicaModel", "lay", "(I)V"⟩, 9), (⟨"TextReplicaModel", "following", "(III)I"⟩, 9), (⟨"TextReplicaModel", "inRow", "(II)Z"⟩, 9), (⟨"TextReplicaModel", "greater", "(II)Z"⟩, 9), (⟨"TextReplicaModel", "gone", "(II)Z"⟩, 9), (⟨"TextReplicaModel", "next", "(II)I"⟩, 9), (⟨"TextReplicaModel", "make", "(IZII)I"⟩, 9), (⟨"TextReplicaModel", "greatest", "(I)I"⟩, 9)]
theorem lw_r1 : ∀ q ∈ lw_privs_1, lw_okq q := List.forall_mem_cons.mpr ⟨lw_p0, List.forall_mem_cons.mpr ⟨lw_p1, List.forall_mem_cons.mpr ⟨lw_p2, List.forall_mem_cons.mpr ⟨lw_p3, List.forall_mem_cons.mpr ⟨lw_p4, List.forall_mem_cons.mpr ⟨lw_p5, List.forall_mem_cons.mpr ⟨lw_p6, List.forall_mem_cons.mpr ⟨lw_p7, List.forall_mem_cons.mpr ⟨lw_p8, List.forall_mem_cons.mpr ⟨lw_p9, List.forall_mem_cons.mpr ⟨lw_p10, List.forall_mem_cons.mpr ⟨lw_p11, List.forall_mem_cons.mpr ⟨lw_p12, List.forall_mem_cons.mpr ⟨lw_p13, List.forall_mem_cons.mpr ⟨lw_p14, List.forall_mem_cons.mpr ⟨lw_p15, fun _ h => absurd h List.not_mem_nil⟩⟩⟩⟩⟩⟩⟩⟩⟩⟩⟩⟩⟩⟩⟩⟩
def lw_privs : List (MethodName × Nat) := lw_privs_1
def lw_tbl : List Cond := k2_sels lw_privs ++ tables_1
theorem lw_privs_ok : ∀ q ∈ lw_privs, lw_okq q := lw_r1
-- ===== ONE list of words for every method: the tables' words that hold all through a run =====
def lw_all : List Cond := lw_tbl.filter goodWord
/-- a word of the tables by its place: claim/WORDS.tsv -/
theorem lw_w {w : Cond} (i : Nat) (h : lw_tbl[i]? = some w) (g : goodWord w = true) : w ∈ lw_all := List.mem_filter.mpr ⟨List.mem_of_getElem? h, g⟩
theorem lw_all_tbl {w : Cond} (h : w ∈ lw_all) : w ∈ lw_tbl := (List.mem_filter.mp h).1
theorem lw_self : GoodIn lw_all lw_all := fun w h => ⟨h, good_of_word (List.mem_filter.mp h).2⟩
/-- a class's field words, by their places -/
theorem lw_in (ws : List Cond) (ps : List Nat) (hp : ws = ps.filterMap (fun i => lw_tbl[i]?)) (hg : ws.all goodWord = true) : ∀ w ∈ ws, w ∈ lw_all := by
  intro w h
  have h1 := List.all_eq_true.mp hg w h
  rw [hp] at h
  obtain ⟨i, -, hi⟩ := List.mem_filterMap.mp h
  exact lw_w i hi h1
/-- the words of a contract for the method y with code b, L locals, answer r -/
abbrev ws_ (y : MethodName) (b : ByteArray) (L : Nat) (r : Option FieldType) : List Cond := Cond.code y b L r :: lw_all
theorem lw_meth {y : MethodName} {b : ByteArray} {L : Nat} {r : Option FieldType} (h : Cond.code y b L r ∈ lw_all) : GoodIn lw_all (ws_ y b L r) := by
  intro w hw
  rcases List.mem_cons.mp hw with e | e
  · rw [e]
    exact lw_self _ h
  · exact lw_self _ e
theorem lw_app {a c : List Cond} (ha : ∀ w ∈ a, w ∈ lw_all) (hc : GoodIn lw_all c) : GoodIn lw_all (a ++ c) := by
  intro w hw
  rcases List.mem_append.mp hw with e | e
  · exact lw_self w (ha w e)
  · exact hc w e
/-- what a call through an object asks: cwV n hts (lw_V ..) -/
theorem lw_V {own : String} {idx : Nat} {C : String} {y : MethodName} {b : ByteArray} {L : Nat} {r : Option FieldType} (h1 : Cond.methodLink own idx y ∈ lw_all) (h2 : Cond.instanceMethod y ∈ lw_all) (h3 : Cond.selects C y y ∈ lw_all) (h4 : Cond.initialized C ∈ lw_all) (h5 : Cond.code y b L r ∈ lw_all) : GoodIn lw_all (wsV own idx C y (ws_ y b L r)) := by
  refine lw_app ?_ (lw_meth h5)
  intro w hw
  simp only [List.mem_cons, List.not_mem_nil, or_false] at hw
  rcases hw with e | e | e | e
  · rw [e]; exact h1
  · rw [e]; exact h2
  · rw [e]; exact h3
  · rw [e]; exact h4
/-- what a static call asks: va_cwS n hts (lw_S ..) -/
theorem lw_S {own : String} {idx : Nat} {y : MethodName} {b : ByteArray} {L : Nat} {r : Option FieldType} (h1 : Cond.methodLink own idx y ∈ lw_all) (h2 : Cond.static y ∈ lw_all) (h3 : Cond.initialized y.cls ∈ lw_all) (h4 : Cond.code y b L r ∈ lw_all) : GoodIn lw_all (va_wsS own idx y (ws_ y b L r)) := by
  refine lw_app ?_ (lw_meth h4)
  intro w hw
  simp only [List.mem_cons, List.not_mem_nil, or_false] at hw
  rcases hw with e | e | e
  · rw [e]; exact h1
  · rw [e]; exact h2
  · rw [e]; exact h3
/-- the words of a contract for a method WITH HANDLERS (hh: its table) -/
abbrev wsW_ (y : MethodName) (b : ByteArray) (L : Nat) (r : Option FieldType) (hh : List (Nat × Nat × Nat × Nat)) : List Cond := Cond.codeWith y b L r hh :: lw_all
theorem lw_methW {y : MethodName} {b : ByteArray} {L : Nat} {r : Option FieldType} {hh : List (Nat × Nat × Nat × Nat)} (h : Cond.codeWith y b L r hh ∈ lw_all) : GoodIn lw_all (wsW_ y b L r hh) := by
  intro w hw
  rcases List.mem_cons.mp hw with e | e
  · rw [e]
    exact lw_self _ h
  · exact lw_self _ e
/-- any list of words by their places (lw_in), good -/
theorem lw_good {ws : List Cond} (h : ∀ w ∈ ws, w ∈ lw_all) : GoodIn lw_all ws := fun w hw => lw_self w (h w hw)
/-- what a call of a method with handlers asks: vx_cwVW n hts (lw_VW ..), vx_cwSW n hts (lw_SW ..) -/
theorem lw_VW {own : String} {idx : Nat} {C : String} {y : MethodName} {b : ByteArray} {L : Nat} {r : Option FieldType} {hh : List (Nat × Nat × Nat × Nat)} (h1 : Cond.methodLink own idx y ∈ lw_all) (h2 : Cond.instanceMethod y ∈ lw_all) (h3 : Cond.selects C y y ∈ lw_all) (h4 : Cond.initialized C ∈ lw_all) (h5 : Cond.codeWith y b L r hh ∈ lw_all) : GoodIn lw_all (wsV own idx C y (wsW_ y b L r hh)) := by
  refine lw_app ?_ (lw_methW h5)
  intro w hw
  simp only [List.mem_cons, List.not_mem_nil, or_false] at hw
  rcases hw with e | e | e | e
  · rw [e]; exact h1
  · rw [e]; exact h2
  · rw [e]; exact h3
  · rw [e]; exact h4
theorem lw_SW {own : String} {idx : Nat} {y : MethodName} {b : ByteArray} {L : Nat} {r : Option FieldType} {hh : List (Nat × Nat × Nat × Nat)} (h1 : Cond.methodLink own idx y ∈ lw_all) (h2 : Cond.static y ∈ lw_all) (h3 : Cond.initialized y.cls ∈ lw_all) (h4 : Cond.codeWith y b L r hh ∈ lw_all) : GoodIn lw_all (va_wsS own idx y (wsW_ y b L r hh)) := by
  refine lw_app ?_ (lw_methW h4)
  intro w hw
  simp only [List.mem_cons, List.not_mem_nil, or_false] at hw
  rcases hw with e | e | e
  · rw [e]; exact h1
  · rw [e]; exact h2
  · rw [e]; exact h3
/-- a word by its place in its run of the tables -/
theorem lw_at {r : List Cond} (hr : ∀ w ∈ r, w ∈ lw_tbl) {w : Cond} (i : Nat) (h : r[i]? = some w) : w ∈ lw_tbl := hr w (List.mem_of_getElem? h)
theorem lw_g {w : Cond} (h : w ∈ lw_tbl) (g : goodWord w = true) : w ∈ lw_all := List.mem_filter.mpr ⟨h, g⟩
theorem lw_ms : ∀ w ∈ k2_sels lw_privs, w ∈ lw_tbl := fun w h => show w ∈ k2_sels lw_privs ++ tables_1 from List.mem_append_left _ h
theorem lw_m0 : ∀ w ∈ tables_1, w ∈ lw_tbl := fun w h => show w ∈ k2_sels lw_privs ++ tables_1 from List.mem_append_right (k2_sels lw_privs) h
theorem qs0 : (Cond.selects "TextReplica" ⟨"TextReplica", "insertAt", "(II)I"⟩ ⟨"TextReplica", "insertAt", "(II)I"⟩) ∈ lw_all := lw_g (lw_at lw_ms 0 rfl) rfl
theorem qs1 : (Cond.selects "TextReplica" ⟨"TextReplica", "newChange", "(IZ)I"⟩ ⟨"TextReplica", "newChange", "(IZ)I"⟩) ∈ lw_all := lw_g (lw_at lw_ms 1 rfl) rfl
theorem qs2 : (Cond.selects "TextReplica" ⟨"TextReplica", "learn", "(II)V"⟩ ⟨"TextReplica", "learn", "(II)V"⟩) ∈ lw_all := lw_g (lw_at lw_ms 2 rfl) rfl
theorem qs3 : (Cond.selects "TextReplica" ⟨"TextReplica", "putInRow", "(II)V"⟩ ⟨"TextReplica", "putInRow", "(II)V"⟩) ∈ lw_all := lw_g (lw_at lw_ms 3 rfl) rfl
theorem qs4 : (Cond.selects "TextReplica" ⟨"TextReplica", "isGreater", "(II)Z"⟩ ⟨"TextReplica", "isGreater", "(II)Z"⟩) ∈ lw_all := lw_g (lw_at lw_ms 4 rfl) rfl
theorem qs5 : (Cond.selects "TextReplica" ⟨"TextReplica", "takeAway", "(II)V"⟩ ⟨"TextReplica", "takeAway", "(II)V"⟩) ∈ lw_all := lw_g (lw_at lw_ms 5 rfl) rfl
theorem qs6 : (Cond.selects "TextReplica" ⟨"TextReplica", "isKnown", "(II)Z"⟩ ⟨"TextReplica", "isKnown", "(II)Z"⟩) ∈ lw_all := lw_g (lw_at lw_ms 6 rfl) rfl
theorem qs7 : (Cond.selects "TextReplica" ⟨"TextReplica", "shown", "(II)I"⟩ ⟨"TextReplica", "shown", "(II)I"⟩) ∈ lw_all := lw_g (lw_at lw_ms 7 rfl) rfl
theorem qs8 : (Cond.selects "TextReplicaModel" ⟨"TextReplicaModel", "lay", "(I)V"⟩ ⟨"TextReplicaModel", "lay", "(I)V"⟩) ∈ lw_all := lw_g (lw_at lw_ms 8 rfl) rfl
theorem qs9 : (Cond.selects "TextReplicaModel" ⟨"TextReplicaModel", "following", "(III)I"⟩ ⟨"TextReplicaModel", "following", "(III)I"⟩) ∈ lw_all := lw_g (lw_at lw_ms 9 rfl) rfl
theorem qs10 : (Cond.selects "TextReplicaModel" ⟨"TextReplicaModel", "inRow", "(II)Z"⟩ ⟨"TextReplicaModel", "inRow", "(II)Z"⟩) ∈ lw_all := lw_g (lw_at lw_ms 10 rfl) rfl
theorem qs11 : (Cond.selects "TextReplicaModel" ⟨"TextReplicaModel", "greater", "(II)Z"⟩ ⟨"TextReplicaModel", "greater", "(II)Z"⟩) ∈ lw_all := lw_g (lw_at lw_ms 11 rfl) rfl
theorem qs12 : (Cond.selects "TextReplicaModel" ⟨"TextReplicaModel", "gone", "(II)Z"⟩ ⟨"TextReplicaModel", "gone", "(II)Z"⟩) ∈ lw_all := lw_g (lw_at lw_ms 12 rfl) rfl
theorem qs13 : (Cond.selects "TextReplicaModel" ⟨"TextReplicaModel", "next", "(II)I"⟩ ⟨"TextReplicaModel", "next", "(II)I"⟩) ∈ lw_all := lw_g (lw_at lw_ms 13 rfl) rfl
theorem qs14 : (Cond.selects "TextReplicaModel" ⟨"TextReplicaModel", "make", "(IZII)I"⟩ ⟨"TextReplicaModel", "make", "(IZII)I"⟩) ∈ lw_all := lw_g (lw_at lw_ms 14 rfl) rfl
theorem qs15 : (Cond.selects "TextReplicaModel" ⟨"TextReplicaModel", "greatest", "(I)I"⟩ ⟨"TextReplicaModel", "greatest", "(I)I"⟩) ∈ lw_all := lw_g (lw_at lw_ms 15 rfl) rfl
end
section
/-! java/lang/Object -/
set_option maxRecDepth 100000
def RJ0 : String := "java/lang/Object"
abbrev cJ0_init : ByteArray := object_method_1_code
def yJ0_init : MethodName := ⟨RJ0, "<init>", "()V"⟩
theorem dJ0_init_0 : decode cJ0_init 0 = .ok (.return_, 1) := by decide +kernel
theorem q25 : (Jvm.Cond.instanceMethod ({ cls := "java/lang/Object", name := "<init>", desc := "()V" } : Jvm.MethodName)) ∈ lw_all := lw_g (lw_at lw_m0 9 rfl) rfl
theorem q26 : (Jvm.Cond.code ({ cls := "java/lang/Object", name := "<init>", desc := "()V" } : Jvm.MethodName) object_method_1_code (1 : Nat) (Option.none : Option Jvm.ClassFile.FieldType)) ∈ lw_all := lw_g (lw_at lw_m0 10 rfl) rfl
theorem q76 : (Jvm.Cond.arrayClass Jvm.ClassFile.FieldType.boolean) ∈ lw_all := lw_g (lw_at lw_m0 60 rfl) rfl
set_option maxRecDepth 100000
theorem q77 : (Jvm.Cond.arrayClass Jvm.ClassFile.FieldType.int) ∈ lw_all := lw_g (lw_at lw_m0 61 rfl) rfl
theorem q16 : (Jvm.Cond.initialized "TextReplicaLaw") ∈ lw_all := lw_g (lw_at lw_m0 0 rfl) rfl
set_option maxRecDepth 100000
theorem q19 : (Jvm.Cond.classLink "TextReplicaLaw" (7 : Nat) "TextReplica") ∈ lw_all := lw_g (lw_at lw_m0 3 rfl) rfl
theorem q21 : (Jvm.Cond.methodLink "TextReplicaLaw" (9 : Nat) ({ cls := "TextReplica", name := "<init>", desc := "()V" } : Jvm.MethodName)) ∈ lw_all := lw_g (lw_at lw_m0 5 rfl) rfl
theorem q78 : (Jvm.Cond.methodLink "TextReplicaLaw" (13 : Nat) ({ cls := "TextReplica", name := "insert", desc := "(III)I" } : Jvm.MethodName)) ∈ lw_all := lw_g (lw_at lw_m0 62 rfl) rfl
theorem q109 : (Jvm.Cond.methodLink "TextReplicaLaw" (18 : Nat) ({ cls := "TextReplica", name := "delete", desc := "(II)I" } : Jvm.MethodName)) ∈ lw_all := lw_g (lw_at lw_m0 93 rfl) rfl
theorem q113 : (Jvm.Cond.methodLink "TextReplicaLaw" (23 : Nat) ({ cls := "TextReplica", name := "deliver", desc := "(II)I" } : Jvm.MethodName)) ∈ lw_all := lw_g (lw_at lw_m0 97 rfl) rfl
theorem q121 : (Jvm.Cond.methodLink "TextReplicaLaw" (27 : Nat) ({ cls := "TextReplica", name := "sync", desc := "(II)I" } : Jvm.MethodName)) ∈ lw_all := lw_g (lw_at lw_m0 105 rfl) rfl
theorem q125 : (Jvm.Cond.methodLink "TextReplicaLaw" (31 : Nat) ({ cls := "TextReplica", name := "length", desc := "(I)I" } : Jvm.MethodName)) ∈ lw_all := lw_g (lw_at lw_m0 109 rfl) rfl
theorem q129 : (Jvm.Cond.methodLink "TextReplicaLaw" (36 : Nat) ({ cls := "TextReplica", name := "letter", desc := "(II)I" } : Jvm.MethodName)) ∈ lw_all := lw_g (lw_at lw_m0 113 rfl) rfl
theorem q133 : (Jvm.Cond.methodLink "TextReplicaLaw" (40 : Nat) ({ cls := "TextReplica", name := "row", desc := "(I)I" } : Jvm.MethodName)) ∈ lw_all := lw_g (lw_at lw_m0 117 rfl) rfl
theorem q137 : (Jvm.Cond.methodLink "TextReplicaLaw" (44 : Nat) ({ cls := "TextReplica", name := "known", desc := "(II)I" } : Jvm.MethodName)) ∈ lw_all := lw_g (lw_at lw_m0 121 rfl) rfl
theorem q141 : (Jvm.Cond.methodLink "TextReplicaLaw" (48 : Nat) ({ cls := "TextReplica", name := "alike", desc := "(II)I" } : Jvm.MethodName)) ∈ lw_all := lw_g (lw_at lw_m0 125 rfl) rfl
theorem q149 : (Jvm.Cond.classLink "TextReplicaLaw" (10 : Nat) "TextReplicaModel") ∈ lw_all := lw_g (lw_at lw_m0 133 rfl) rfl
theorem q151 : (Jvm.Cond.methodLink "TextReplicaLaw" (12 : Nat) ({ cls := "TextReplicaModel", name := "<init>", desc := "()V" } : Jvm.MethodName)) ∈ lw_all := lw_g (lw_at lw_m0 135 rfl) rfl
theorem q183 : (Jvm.Cond.methodLink "TextReplicaLaw" (17 : Nat) ({ cls := "TextReplicaModel", name := "insert", desc := "(III)I" } : Jvm.MethodName)) ∈ lw_all := lw_g (lw_at lw_m0 167 rfl) rfl
theorem q226 : (Jvm.Cond.methodLink "TextReplicaLaw" (22 : Nat) ({ cls := "TextReplicaModel", name := "delete", desc := "(II)I" } : Jvm.MethodName)) ∈ lw_all := lw_g (lw_at lw_m0 210 rfl) rfl
theorem q230 : (Jvm.Cond.methodLink "TextReplicaLaw" (26 : Nat) ({ cls := "TextReplicaModel", name := "deliver", desc := "(II)I" } : Jvm.MethodName)) ∈ lw_all := lw_g (lw_at lw_m0 214 rfl) rfl
theorem q234 : (Jvm.Cond.methodLink "TextReplicaLaw" (30 : Nat) ({ cls := "TextReplicaModel", name := "sync", desc := "(II)I" } : Jvm.MethodName)) ∈ lw_all := lw_g (lw_at lw_m0 218 rfl) rfl
theorem q238 : (Jvm.Cond.methodLink "TextReplicaLaw" (35 : Nat) ({ cls := "TextReplicaModel", name := "length", desc := "(I)I" } : Jvm.MethodName)) ∈ lw_all := lw_g (lw_at lw_m0 222 rfl) rfl
theorem q239 : (Jvm.Cond.methodLink "TextReplicaLaw" (39 : Nat) ({ cls := "TextReplicaModel", name := "letter", desc := "(II)I" } : Jvm.MethodName)) ∈ lw_all := lw_g (lw_at lw_m0 223 rfl) rfl
theorem q243 : (Jvm.Cond.methodLink "TextReplicaLaw" (43 : Nat) ({ cls := "TextReplicaModel", name := "row", desc := "(I)I" } : Jvm.MethodName)) ∈ lw_all := lw_g (lw_at lw_m0 227 rfl) rfl
theorem q247 : (Jvm.Cond.methodLink "TextReplicaLaw" (47 : Nat) ({ cls := "TextReplicaModel", name := "known", desc := "(II)I" } : Jvm.MethodName)) ∈ lw_all := lw_g (lw_at lw_m0 231 rfl) rfl
theorem q251 : (Jvm.Cond.methodLink "TextReplicaLaw" (51 : Nat) ({ cls := "TextReplicaModel", name := "alike", desc := "(II)I" } : Jvm.MethodName)) ∈ lw_all := lw_g (lw_at lw_m0 235 rfl) rfl
end
section
/-! TextReplica -/
set_option maxRecDepth 100000
def RX0 : String := "TextReplica"
def TX0 : u_T := fun k => match k with
  | 0 => ("TextReplica", "made", "I", false)
  | 1 => ("TextReplica", "isInsert", "[Z", true)
  | 2 => ("TextReplica", "originOf", "[I", true)
  | 3 => ("TextReplica", "numberOf", "[I", true)
  | 4 => ("TextReplica", "letterOf", "[I", true)
  | 5 => ("TextReplica", "anchorOf", "[I", true)
  | 6 => ("TextReplica", "stampOf", "[I", true)
  | 7 => ("TextReplica", "targetOf", "[I", true)
  | 8 => ("TextReplica", "madeBy", "[I", true)
  | 9 => ("TextReplica", "changeOf", "[I", true)
  | 10 => ("TextReplica", "knows", "[I", true)
  | 11 => ("TextReplica", "greatest", "[I", true)
  | 12 => ("TextReplica", "follower", "[I", true)
  | 13 => ("TextReplica", "taken", "[Z", true)
  | 14 => ("TextReplica", "rowLength", "[I", true)
  | _ => ("TextReplica", "textLength", "[I", true)
def tyX0 : Nat → FieldType := fun k => match k with
  | 0 => .int
  | 1 => .array .boolean
  | 2 => .array .int
  | 3 => .array .int
  | 4 => .array .int
  | 5 => .array .int
  | 6 => .array .int
  | 7 => .array .int
  | 8 => .array .int
  | 9 => .array .int
  | 10 => .array .int
  | 11 => .array .int
  | 12 => .array .int
  | 13 => .array .boolean
  | 14 => .array .int
  | _ => .array .int
abbrev wsX00 : List Cond := u_ws RX0 TX0 16
set_option maxRecDepth 100000 in
theorem nmX0 : ∀ a, a < 16 → ∀ b, b < 16 → a ≠ b → (TX0 a).2.1 ≠ (TX0 b).2.1 := by decide +kernel
set_option maxRecDepth 100000 in
theorem tyX0_ok : ∀ k, k < 16 → parseFieldDescriptor (TX0 k).2.2.1 = some (tyX0 k) := by decide +kernel
abbrev cX0_init : ByteArray := prog_1_method_1_code
def yX0_init : MethodName := ⟨RX0, "<init>", "()V"⟩
theorem dX0_init_0 : decode cX0_init 0 = .ok (.aload_n 0, 1) := by decide +kernel
theorem dX0_init_1 : decode cX0_init 1 = .ok (.invokespecial 1, 3) := by decide +kernel
theorem dX0_init_4 : decode cX0_init 4 = .ok (.aload_n 0, 1) := by decide +kernel
theorem dX0_init_5 : decode cX0_init 5 = .ok (.bipush 48, 2) := by decide +kernel
theorem dX0_init_7 : decode cX0_init 7 = .ok (.newarray .boolean, 2) := by decide +kernel
theorem dX0_init_9 : decode cX0_init 9 = .ok (.putfield 7, 3) := by decide +kernel
theorem dX0_init_12 : decode cX0_init 12 = .ok (.aload_n 0, 1) := by decide +kernel
theorem dX0_init_13 : decode cX0_init 13 = .ok (.bipush 48, 2) := by decide +kernel
theorem dX0_init_15 : decode cX0_init 15 = .ok (.newarray .int, 2) := by decide +kernel
theorem dX0_init_17 : decode cX0_init 17 = .ok (.putfield 13, 3) := by decide +kernel
theorem dX0_init_20 : decode cX0_init 20 = .ok (.aload_n 0, 1) := by decide +kernel
theorem dX0_init_21 : decode cX0_init 21 = .ok (.bipush 48, 2) := by decide +kernel
theorem dX0_init_23 : decode cX0_init 23 = .ok (.newarray .int, 2) := by decide +kernel
theorem dX0_init_25 : decode cX0_init 25 = .ok (.putfield 17, 3) := by decide +kernel
theorem dX0_init_28 : decode cX0_init 28 = .ok (.aload_n 0, 1) := by decide +kernel
theorem dX0_init_29 : decode cX0_init 29 = .ok (.bipush 48, 2) := by decide +kernel
theorem dX0_init_31 : decode cX0_init 31 = .ok (.newarray .int, 2) := by decide +kernel
theorem dX0_init_33 : decode cX0_init 33 = .ok (.putfield 20, 3) := by decide +kernel
theorem dX0_init_36 : decode cX0_init 36 = .ok (.aload_n 0, 1) := by decide +kernel
theorem dX0_init_37 : decode cX0_init 37 = .ok (.bipush 48, 2) := by decide +kernel
theorem dX0_init_39 : decode cX0_init 39 = .ok (.newarray .int, 2) := by decide +kernel
theorem dX0_init_41 : decode cX0_init 41 = .ok (.putfield 23, 3) := by decide +kernel
theorem dX0_init_44 : decode cX0_init 44 = .ok (.aload_n 0, 1) := by decide +kernel
theorem dX0_init_45 : decode cX0_init 45 = .ok (.bipush 48, 2) := by decide +kernel
theorem dX0_init_47 : decode cX0_init 47 = .ok (.newarray .int, 2) := by decide +kernel
theorem dX0_init_49 : decode cX0_init 49 = .ok (.putfield 26, 3) := by decide +kernel
theorem dX0_init_52 : decode cX0_init 52 = .ok (.aload_n 0, 1) := by decide +kernel
theorem dX0_init_53 : decode cX0_init 53 = .ok (.bipush 48, 2) := by decide +kernel
theorem dX0_init_55 : decode cX0_init 55 = .ok (.newarray .int, 2) := by decide +kernel
theorem dX0_init_57 : decode cX0_init 57 = .ok (.putfield 29, 3) := by decide +kernel
theorem dX0_init_60 : decode cX0_init 60 = .ok (.aload_n 0, 1) := by decide +kernel
theorem dX0_init_61 : decode cX0_init 61 = .ok (.iconst 3, 1) := by decide +kernel
theorem dX0_init_62 : decode cX0_init 62 = .ok (.newarray .int, 2) := by decide +kernel
theorem dX0_init_64 : decode cX0_init 64 = .ok (.putfield 32, 3) := by decide +kernel
theorem dX0_init_67 : decode cX0_init 67 = .ok (.aload_n 0, 1) := by decide +kernel
theorem dX0_init_68 : decode cX0_init 68 = .ok (.sipush 147, 3) := by decide +kernel
theorem dX0_init_71 : decode cX0_init 71 = .ok (.newarray .int, 2) := by decide +kernel
theorem dX0_init_73 : decode cX0_init 73 = .ok (.putfield 35, 3) := by decide +kernel
theorem dX0_init_76 : decode cX0_init 76 = .ok (.aload_n 0, 1) := by decide +kernel
theorem dX0_init_77 : decode cX0_init 77 = .ok (.bipush 9, 2) := by decide +kernel
theorem dX0_init_79 : decode cX0_init 79 = .ok (.newarray .int, 2) := by decide +kernel
theorem dX0_init_81 : decode cX0_init 81 = .ok (.putfield 38, 3) := by decide +kernel
theorem dX0_init_84 : decode cX0_init 84 = .ok (.aload_n 0, 1) := by decide +kernel
theorem dX0_init_85 : decode cX0_init 85 = .ok (.iconst 3, 1) := by decide +kernel
theorem dX0_init_86 : decode cX0_init 86 = .ok (.newarray .int, 2) := by decide +kernel
theorem dX0_init_88 : decode cX0_init 88 = .ok (.putfield 41, 3) := by decide +kernel
theorem dX0_init_91 : decode cX0_init 91 = .ok (.aload_n 0, 1) := by decide +kernel
theorem dX0_init_92 : decode cX0_init 92 = .ok (.sipush 147, 3) := by decide +kernel
theorem dX0_init_95 : decode cX0_init 95 = .ok (.newarray .int, 2) := by decide +kernel
theorem dX0_init_97 : decode cX0_init 97 = .ok (.putfield 44, 3) := by decide +kernel
theorem dX0_init_100 : decode cX0_init 100 = .ok (.aload_n 0, 1) := by decide +kernel
theorem dX0_init_101 : decode cX0_init 101 = .ok (.sipush 147, 3) := by decide +kernel
theorem dX0_init_104 : decode cX0_init 104 = .ok (.newarray .boolean, 2) := by decide +kernel
theorem dX0_init_106 : decode cX0_init 106 = .ok (.putfield 47, 3) := by decide +kernel
theorem dX0_init_109 : decode cX0_init 109 = .ok (.aload_n 0, 1) := by decide +kernel
theorem dX0_init_110 : decode cX0_init 110 = .ok (.iconst 3, 1) := by decide +kernel
theorem dX0_init_111 : decode cX0_init 111 = .ok (.newarray .int, 2) := by decide +kernel
theorem dX0_init_113 : decode cX0_init 113 = .ok (.putfield 50, 3) := by decide +kernel
theorem dX0_init_116 : decode cX0_init 116 = .ok (.aload_n 0, 1) := by decide +kernel
theorem dX0_init_117 : decode cX0_init 117 = .ok (.iconst 3, 1) := by decide +kernel
theorem dX0_init_118 : decode cX0_init 118 = .ok (.newarray .int, 2) := by decide +kernel
theorem dX0_init_120 : decode cX0_init 120 = .ok (.putfield 53, 3) := by decide +kernel
theorem dX0_init_123 : decode cX0_init 123 = .ok (.iconst 0, 1) := by decide +kernel
theorem dX0_init_124 : decode cX0_init 124 = .ok (.istore_n 1, 1) := by decide +kernel
theorem dX0_init_125 : decode cX0_init 125 = .ok (.iload_n 1, 1) := by decide +kernel
theorem dX0_init_126 : decode cX0_init 126 = .ok (.iconst 3, 1) := by decide +kernel
theorem dX0_init_127 : decode cX0_init 127 = .ok (.if_icmp .ge 19, 3) := by decide +kernel
theorem dX0_init_130 : decode cX0_init 130 = .ok (.aload_n 0, 1) := by decide +kernel
theorem dX0_init_131 : decode cX0_init 131 = .ok (.getfield 44, 3) := by decide +kernel
theorem dX0_init_134 : decode cX0_init 134 = .ok (.bipush 49, 2) := by decide +kernel
theorem dX0_init_136 : decode cX0_init 136 = .ok (.iload_n 1, 1) := by decide +kernel
theorem dX0_init_137 : decode cX0_init 137 = .ok (.imul, 1) := by decide +kernel
theorem dX0_init_138 : decode cX0_init 138 = .ok (.iconst (-1), 1) := by decide +kernel
theorem dX0_init_139 : decode cX0_init 139 = .ok (.iastore, 1) := by decide +kernel
theorem dX0_init_140 : decode cX0_init 140 = .ok (.iinc 1 1, 3) := by decide +kernel
theorem dX0_init_143 : decode cX0_init 143 = .ok (.goto (-18), 3) := by decide +kernel
theorem dX0_init_146 : decode cX0_init 146 = .ok (.return_, 1) := by decide +kernel
abbrev cX0_insert : ByteArray := prog_1_method_2_code
def yX0_insert : MethodName := ⟨RX0, "insert", "(III)I"⟩
theorem dX0_insert_0 : decode cX0_insert 0 = .ok (.iload_n 1, 1) := by decide +kernel
theorem dX0_insert_1 : decode cX0_insert 1 = .ok (.invokestatic 56, 3) := by decide +kernel
theorem dX0_insert_4 : decode cX0_insert 4 = .ok (.ifCond .eq 26, 3) := by decide +kernel
theorem dX0_insert_7 : decode cX0_insert 7 = .ok (.iload_n 2, 1) := by decide +kernel
theorem dX0_insert_8 : decode cX0_insert 8 = .ok (.ifCond .lt 22, 3) := by decide +kernel
theorem dX0_insert_11 : decode cX0_insert 11 = .ok (.iload_n 2, 1) := by decide +kernel
theorem dX0_insert_12 : decode cX0_insert 12 = .ok (.aload_n 0, 1) := by decide +kernel
theorem dX0_insert_13 : decode cX0_insert 13 = .ok (.getfield 53, 3) := by decide +kernel
theorem dX0_insert_16 : decode cX0_insert 16 = .ok (.iload_n 1, 1) := by decide +kernel
theorem dX0_insert_17 : decode cX0_insert 17 = .ok (.iaload, 1) := by decide +kernel
theorem dX0_insert_18 : decode cX0_insert 18 = .ok (.if_icmp .gt 12, 3) := by decide +kernel
theorem dX0_insert_21 : decode cX0_insert 21 = .ok (.aload_n 0, 1) := by decide +kernel
theorem dX0_insert_22 : decode cX0_insert 22 = .ok (.getfield 60, 3) := by decide +kernel
theorem dX0_insert_25 : decode cX0_insert 25 = .ok (.bipush 48, 2) := by decide +kernel
theorem dX0_insert_27 : decode cX0_insert 27 = .ok (.if_icmp .lt 5, 3) := by decide +kernel
theorem dX0_insert_30 : decode cX0_insert 30 = .ok (.iconst (-1), 1) := by decide +kernel
theorem dX0_insert_31 : decode cX0_insert 31 = .ok (.ireturn, 1) := by decide +kernel
theorem dX0_insert_32 : decode cX0_insert 32 = .ok (.iload_n 2, 1) := by decide +kernel
theorem dX0_insert_33 : decode cX0_insert 33 = .ok (.ifCond .ne 7, 3) := by decide +kernel
theorem dX0_insert_36 : decode cX0_insert 36 = .ok (.iconst (-1), 1) := by decide +kernel
theorem dX0_insert_37 : decode cX0_insert 37 = .ok (.goto 11, 3) := by decide +kernel
theorem dX0_insert_40 : decode cX0_insert 40 = .ok (.aload_n 0, 1) := by decide +kernel
theorem dX0_insert_41 : decode cX0_insert 41 = .ok (.iload_n 1, 1) := by decide +kernel
theorem dX0_insert_42 : decode cX0_insert 42 = .ok (.iload_n 2, 1) := by decide +kernel
theorem dX0_insert_43 : decode cX0_insert 43 = .ok (.iconst 1, 1) := by decide +kernel
theorem dX0_insert_44 : decode cX0_insert 44 = .ok (.isub, 1) := by decide +kernel
theorem dX0_insert_45 : decode cX0_insert 45 = .ok (.invokevirtual 64, 3) := by decide +kernel
theorem dX0_insert_48 : decode cX0_insert 48 = .ok (.istore 4, 2) := by decide +kernel
theorem dX0_insert_50 : decode cX0_insert 50 = .ok (.aload_n 0, 1) := by decide +kernel
theorem dX0_insert_51 : decode cX0_insert 51 = .ok (.iload_n 1, 1) := by decide +kernel
theorem dX0_insert_52 : decode cX0_insert 52 = .ok (.iconst 1, 1) := by decide +kernel
theorem dX0_insert_53 : decode cX0_insert 53 = .ok (.invokevirtual 68, 3) := by decide +kernel
theorem dX0_insert_56 : decode cX0_insert 56 = .ok (.istore 5, 2) := by decide +kernel
theorem dX0_insert_58 : decode cX0_insert 58 = .ok (.aload_n 0, 1) := by decide +kernel
theorem dX0_insert_59 : decode cX0_insert 59 = .ok (.getfield 20, 3) := by decide +kernel
theorem dX0_insert_62 : decode cX0_insert 62 = .ok (.iload 5, 2) := by decide +kernel
theorem dX0_insert_64 : decode cX0_insert 64 = .ok (.iload_n 3, 1) := by decide +kernel
theorem dX0_insert_65 : decode cX0_insert 65 = .ok (.iastore, 1) := by decide +kernel
theorem dX0_insert_66 : decode cX0_insert 66 = .ok (.aload_n 0, 1) := by decide +kernel
theorem dX0_insert_67 : decode cX0_insert 67 = .ok (.getfield 23, 3) := by decide +kernel
theorem dX0_insert_70 : decode cX0_insert 70 = .ok (.iload 5, 2) := by decide +kernel
theorem dX0_insert_72 : decode cX0_insert 72 = .ok (.iload 4, 2) := by decide +kernel
theorem dX0_insert_74 : decode cX0_insert 74 = .ok (.iastore, 1) := by decide +kernel
theorem dX0_insert_75 : decode cX0_insert 75 = .ok (.aload_n 0, 1) := by decide +kernel
theorem dX0_insert_76 : decode cX0_insert 76 = .ok (.getfield 26, 3) := by decide +kernel
theorem dX0_insert_79 : decode cX0_insert 79 = .ok (.iload 5, 2) := by decide +kernel
theorem dX0_insert_81 : decode cX0_insert 81 = .ok (.aload_n 0, 1) := by decide +kernel
theorem dX0_insert_82 : decode cX0_insert 82 = .ok (.getfield 41, 3) := by decide +kernel
theorem dX0_insert_85 : decode cX0_insert 85 = .ok (.iload_n 1, 1) := by decide +kernel
theorem dX0_insert_86 : decode cX0_insert 86 = .ok (.iaload, 1) := by decide +kernel
theorem dX0_insert_87 : decode cX0_insert 87 = .ok (.iconst 1, 1) := by decide +kernel
theorem dX0_insert_88 : decode cX0_insert 88 = .ok (.iadd, 1) := by decide +kernel
theorem dX0_insert_89 : decode cX0_insert 89 = .ok (.iastore, 1) := by decide +kernel
theorem dX0_insert_90 : decode cX0_insert 90 = .ok (.aload_n 0, 1) := by decide +kernel
theorem dX0_insert_91 : decode cX0_insert 91 = .ok (.iload_n 1, 1) := by decide +kernel
theorem dX0_insert_92 : decode cX0_insert 92 = .ok (.iload 5, 2) := by decide +kernel
theorem dX0_insert_94 : decode cX0_insert 94 = .ok (.invokevirtual 72, 3) := by decide +kernel
theorem dX0_insert_97 : decode cX0_insert 97 = .ok (.aload_n 0, 1) := by decide +kernel
theorem dX0_insert_98 : decode cX0_insert 98 = .ok (.getfield 53, 3) := by decide +kernel
theorem dX0_insert_101 : decode cX0_insert 101 = .ok (.iload_n 1, 1) := by decide +kernel
theorem dX0_insert_102 : decode cX0_insert 102 = .ok (.iaload, 1) := by decide +kernel
theorem dX0_insert_103 : decode cX0_insert 103 = .ok (.ireturn, 1) := by decide +kernel
abbrev cX0_isReplica : ByteArray := prog_1_method_19_code
def yX0_isReplica : MethodName := ⟨RX0, "isReplica", "(I)Z"⟩
theorem dX0_isReplica_0 : decode cX0_isReplica 0 = .ok (.iload_n 0, 1) := by decide +kernel
theorem dX0_isReplica_1 : decode cX0_isReplica 1 = .ok (.ifCond .lt 12, 3) := by decide +kernel
theorem dX0_isReplica_4 : decode cX0_isReplica 4 = .ok (.iload_n 0, 1) := by decide +kernel
theorem dX0_isReplica_5 : decode cX0_isReplica 5 = .ok (.iconst 2, 1) := by decide +kernel
theorem dX0_isReplica_6 : decode cX0_isReplica 6 = .ok (.if_icmp .gt 7, 3) := by decide +kernel
theorem dX0_isReplica_9 : decode cX0_isReplica 9 = .ok (.iconst 1, 1) := by decide +kernel
theorem dX0_isReplica_10 : decode cX0_isReplica 10 = .ok (.goto 4, 3) := by decide +kernel
theorem dX0_isReplica_13 : decode cX0_isReplica 13 = .ok (.iconst 0, 1) := by decide +kernel
theorem dX0_isReplica_14 : decode cX0_isReplica 14 = .ok (.ireturn, 1) := by decide +kernel
abbrev cX0_insertAt : ByteArray := prog_1_method_12_code
def yX0_insertAt : MethodName := ⟨RX0, "insertAt", "(II)I"⟩
theorem dX0_insertAt_0 : decode cX0_insertAt 0 = .ok (.bipush 49, 2) := by decide +kernel
theorem dX0_insertAt_2 : decode cX0_insertAt 2 = .ok (.iload_n 1, 1) := by decide +kernel
theorem dX0_insertAt_3 : decode cX0_insertAt 3 = .ok (.imul, 1) := by decide +kernel
theorem dX0_insertAt_4 : decode cX0_insertAt 4 = .ok (.istore_n 3, 1) := by decide +kernel
theorem dX0_insertAt_5 : decode cX0_insertAt 5 = .ok (.iload_n 2, 1) := by decide +kernel
theorem dX0_insertAt_6 : decode cX0_insertAt 6 = .ok (.istore 4, 2) := by decide +kernel
theorem dX0_insertAt_8 : decode cX0_insertAt 8 = .ok (.aload_n 0, 1) := by decide +kernel
theorem dX0_insertAt_9 : decode cX0_insertAt 9 = .ok (.getfield 44, 3) := by decide +kernel
theorem dX0_insertAt_12 : decode cX0_insertAt 12 = .ok (.iload_n 3, 1) := by decide +kernel
theorem dX0_insertAt_13 : decode cX0_insertAt 13 = .ok (.iaload, 1) := by decide +kernel
theorem dX0_insertAt_14 : decode cX0_insertAt 14 = .ok (.istore 5, 2) := by decide +kernel
theorem dX0_insertAt_16 : decode cX0_insertAt 16 = .ok (.iconst 0, 1) := by decide +kernel
theorem dX0_insertAt_17 : decode cX0_insertAt 17 = .ok (.istore 6, 2) := by decide +kernel
theorem dX0_insertAt_19 : decode cX0_insertAt 19 = .ok (.iload 6, 2) := by decide +kernel
theorem dX0_insertAt_21 : decode cX0_insertAt 21 = .ok (.bipush 48, 2) := by decide +kernel
theorem dX0_insertAt_23 : decode cX0_insertAt 23 = .ok (.if_icmp .ge 52, 3) := by decide +kernel
theorem dX0_insertAt_26 : decode cX0_insertAt 26 = .ok (.iload 5, 2) := by decide +kernel
theorem dX0_insertAt_28 : decode cX0_insertAt 28 = .ok (.ifCond .lt 47, 3) := by decide +kernel
theorem dX0_insertAt_31 : decode cX0_insertAt 31 = .ok (.aload_n 0, 1) := by decide +kernel
theorem dX0_insertAt_32 : decode cX0_insertAt 32 = .ok (.getfield 47, 3) := by decide +kernel
theorem dX0_insertAt_35 : decode cX0_insertAt 35 = .ok (.iload_n 3, 1) := by decide +kernel
theorem dX0_insertAt_36 : decode cX0_insertAt 36 = .ok (.iconst 1, 1) := by decide +kernel
theorem dX0_insertAt_37 : decode cX0_insertAt 37 = .ok (.iadd, 1) := by decide +kernel
theorem dX0_insertAt_38 : decode cX0_insertAt 38 = .ok (.iload 5, 2) := by decide +kernel
theorem dX0_insertAt_40 : decode cX0_insertAt 40 = .ok (.iadd, 1) := by decide +kernel
theorem dX0_insertAt_41 : decode cX0_insertAt 41 = .ok (.baload, 1) := by decide +kernel
theorem dX0_insertAt_42 : decode cX0_insertAt 42 = .ok (.ifCond .ne 14, 3) := by decide +kernel
theorem dX0_insertAt_45 : decode cX0_insertAt 45 = .ok (.iload 4, 2) := by decide +kernel
theorem dX0_insertAt_47 : decode cX0_insertAt 47 = .ok (.ifCond .ne 6, 3) := by decide +kernel
theorem dX0_insertAt_50 : decode cX0_insertAt 50 = .ok (.iload 5, 2) := by decide +kernel
theorem dX0_insertAt_52 : decode cX0_insertAt 52 = .ok (.ireturn, 1) := by decide +kernel
theorem dX0_insertAt_53 : decode cX0_insertAt 53 = .ok (.iinc 4 (-1), 3) := by decide +kernel
theorem dX0_insertAt_56 : decode cX0_insertAt 56 = .ok (.aload_n 0, 1) := by decide +kernel
theorem dX0_insertAt_57 : decode cX0_insertAt 57 = .ok (.getfield 44, 3) := by decide +kernel
theorem dX0_insertAt_60 : decode cX0_insertAt 60 = .ok (.iload_n 3, 1) := by decide +kernel
theorem dX0_insertAt_61 : decode cX0_insertAt 61 = .ok (.iconst 1, 1) := by decide +kernel
theorem dX0_insertAt_62 : decode cX0_insertAt 62 = .ok (.iadd, 1) := by decide +kernel
theorem dX0_insertAt_63 : decode cX0_insertAt 63 = .ok (.iload 5, 2) := by decide +kernel
theorem dX0_insertAt_65 : decode cX0_insertAt 65 = .ok (.iadd, 1) := by decide +kernel
theorem dX0_insertAt_66 : decode cX0_insertAt 66 = .ok (.iaload, 1) := by decide +kernel
theorem dX0_insertAt_67 : decode cX0_insertAt 67 = .ok (.istore 5, 2) := by decide +kernel
theorem dX0_insertAt_69 : decode cX0_insertAt 69 = .ok (.iinc 6 1, 3) := by decide +kernel
theorem dX0_insertAt_72 : decode cX0_insertAt 72 = .ok (.goto (-53), 3) := by decide +kernel
theorem dX0_insertAt_75 : decode cX0_insertAt 75 = .ok (.iconst (-1), 1) := by decide +kernel
theorem dX0_insertAt_76 : decode cX0_insertAt 76 = .ok (.ireturn, 1) := by decide +kernel
abbrev cX0_newChange : ByteArray := prog_1_method_4_code
def yX0_newChange : MethodName := ⟨RX0, "newChange", "(IZ)I"⟩
theorem dX0_newChange_0 : decode cX0_newChange 0 = .ok (.aload_n 0, 1) := by decide +kernel
theorem dX0_newChange_1 : decode cX0_newChange 1 = .ok (.getfield 60, 3) := by decide +kernel
theorem dX0_newChange_4 : decode cX0_newChange 4 = .ok (.istore_n 3, 1) := by decide +kernel
theorem dX0_newChange_5 : decode cX0_newChange 5 = .ok (.aload_n 0, 1) := by decide +kernel
theorem dX0_newChange_6 : decode cX0_newChange 6 = .ok (.dup, 1) := by decide +kernel
theorem dX0_newChange_7 : decode cX0_newChange 7 = .ok (.getfield 60, 3) := by decide +kernel
theorem dX0_newChange_10 : decode cX0_newChange 10 = .ok (.iconst 1, 1) := by decide +kernel
theorem dX0_newChange_11 : decode cX0_newChange 11 = .ok (.iadd, 1) := by decide +kernel
theorem dX0_newChange_12 : decode cX0_newChange 12 = .ok (.putfield 60, 3) := by decide +kernel
theorem dX0_newChange_15 : decode cX0_newChange 15 = .ok (.aload_n 0, 1) := by decide +kernel
theorem dX0_newChange_16 : decode cX0_newChange 16 = .ok (.getfield 7, 3) := by decide +kernel
theorem dX0_newChange_19 : decode cX0_newChange 19 = .ok (.iload_n 3, 1) := by decide +kernel
theorem dX0_newChange_20 : decode cX0_newChange 20 = .ok (.iload_n 2, 1) := by decide +kernel
theorem dX0_newChange_21 : decode cX0_newChange 21 = .ok (.bastore, 1) := by decide +kernel
theorem dX0_newChange_22 : decode cX0_newChange 22 = .ok (.aload_n 0, 1) := by decide +kernel
theorem dX0_newChange_23 : decode cX0_newChange 23 = .ok (.getfield 13, 3) := by decide +kernel
theorem dX0_newChange_26 : decode cX0_newChange 26 = .ok (.iload_n 3, 1) := by decide +kernel
theorem dX0_newChange_27 : decode cX0_newChange 27 = .ok (.iload_n 1, 1) := by decide +kernel
theorem dX0_newChange_28 : decode cX0_newChange 28 = .ok (.iastore, 1) := by decide +kernel
theorem dX0_newChange_29 : decode cX0_newChange 29 = .ok (.aload_n 0, 1) := by decide +kernel
theorem dX0_newChange_30 : decode cX0_newChange 30 = .ok (.getfield 32, 3) := by decide +kernel
theorem dX0_newChange_33 : decode cX0_newChange 33 = .ok (.iload_n 1, 1) := by decide +kernel
theorem dX0_newChange_34 : decode cX0_newChange 34 = .ok (.dup2, 1) := by decide +kernel
theorem dX0_newChange_35 : decode cX0_newChange 35 = .ok (.iaload, 1) := by decide +kernel
theorem dX0_newChange_36 : decode cX0_newChange 36 = .ok (.iconst 1, 1) := by decide +kernel
theorem dX0_newChange_37 : decode cX0_newChange 37 = .ok (.iadd, 1) := by decide +kernel
theorem dX0_newChange_38 : decode cX0_newChange 38 = .ok (.iastore, 1) := by decide +kernel
theorem dX0_newChange_39 : decode cX0_newChange 39 = .ok (.aload_n 0, 1) := by decide +kernel
theorem dX0_newChange_40 : decode cX0_newChange 40 = .ok (.getfield 17, 3) := by decide +kernel
theorem dX0_newChange_43 : decode cX0_newChange 43 = .ok (.iload_n 3, 1) := by decide +kernel
theorem dX0_newChange_44 : decode cX0_newChange 44 = .ok (.aload_n 0, 1) := by decide +kernel
theorem dX0_newChange_45 : decode cX0_newChange 45 = .ok (.getfield 32, 3) := by decide +kernel
theorem dX0_newChange_48 : decode cX0_newChange 48 = .ok (.iload_n 1, 1) := by decide +kernel
theorem dX0_newChange_49 : decode cX0_newChange 49 = .ok (.iaload, 1) := by decide +kernel
theorem dX0_newChange_50 : decode cX0_newChange 50 = .ok (.iastore, 1) := by decide +kernel
theorem dX0_newChange_51 : decode cX0_newChange 51 = .ok (.aload_n 0, 1) := by decide +kernel
theorem dX0_newChange_52 : decode cX0_newChange 52 = .ok (.getfield 35, 3) := by decide +kernel
theorem dX0_newChange_55 : decode cX0_newChange 55 = .ok (.bipush 49, 2) := by decide +kernel
theorem dX0_newChange_57 : decode cX0_newChange 57 = .ok (.iload_n 1, 1) := by decide +kernel
theorem dX0_newChange_58 : decode cX0_newChange 58 = .ok (.imul, 1) := by decide +kernel
theorem dX0_newChange_59 : decode cX0_newChange 59 = .ok (.aload_n 0, 1) := by decide +kernel
theorem dX0_newChange_60 : decode cX0_newChange 60 = .ok (.getfield 32, 3) := by decide +kernel
theorem dX0_newChange_63 : decode cX0_newChange 63 = .ok (.iload_n 1, 1) := by decide +kernel
theorem dX0_newChange_64 : decode cX0_newChange 64 = .ok (.iaload, 1) := by decide +kernel
theorem dX0_newChange_65 : decode cX0_newChange 65 = .ok (.iadd, 1) := by decide +kernel
theorem dX0_newChange_66 : decode cX0_newChange 66 = .ok (.iload_n 3, 1) := by decide +kernel
theorem dX0_newChange_67 : decode cX0_newChange 67 = .ok (.iastore, 1) := by decide +kernel
theorem dX0_newChange_68 : decode cX0_newChange 68 = .ok (.iload_n 3, 1) := by decide +kernel
theorem dX0_newChange_69 : decode cX0_newChange 69 = .ok (.ireturn, 1) := by decide +kernel
abbrev cX0_learn : ByteArray := prog_1_method_8_code
def yX0_learn : MethodName := ⟨RX0, "learn", "(II)V"⟩
theorem dX0_learn_0 : decode cX0_learn 0 = .ok (.aload_n 0, 1) := by decide +kernel
theorem dX0_learn_1 : decode cX0_learn 1 = .ok (.getfield 38, 3) := by decide +kernel
theorem dX0_learn_4 : decode cX0_learn 4 = .ok (.iconst 3, 1) := by decide +kernel
theorem dX0_learn_5 : decode cX0_learn 5 = .ok (.iload_n 1, 1) := by decide +kernel
theorem dX0_learn_6 : decode cX0_learn 6 = .ok (.imul, 1) := by decide +kernel
theorem dX0_learn_7 : decode cX0_learn 7 = .ok (.aload_n 0, 1) := by decide +kernel
theorem dX0_learn_8 : decode cX0_learn 8 = .ok (.getfield 13, 3) := by decide +kernel
theorem dX0_learn_11 : decode cX0_learn 11 = .ok (.iload_n 2, 1) := by decide +kernel
theorem dX0_learn_12 : decode cX0_learn 12 = .ok (.iaload, 1) := by decide +kernel
theorem dX0_learn_13 : decode cX0_learn 13 = .ok (.iadd, 1) := by decide +kernel
theorem dX0_learn_14 : decode cX0_learn 14 = .ok (.aload_n 0, 1) := by decide +kernel
theorem dX0_learn_15 : decode cX0_learn 15 = .ok (.getfield 17, 3) := by decide +kernel
theorem dX0_learn_18 : decode cX0_learn 18 = .ok (.iload_n 2, 1) := by decide +kernel
theorem dX0_learn_19 : decode cX0_learn 19 = .ok (.iaload, 1) := by decide +kernel
theorem dX0_learn_20 : decode cX0_learn 20 = .ok (.iastore, 1) := by decide +kernel
theorem dX0_learn_21 : decode cX0_learn 21 = .ok (.aload_n 0, 1) := by decide +kernel
theorem dX0_learn_22 : decode cX0_learn 22 = .ok (.getfield 7, 3) := by decide +kernel
theorem dX0_learn_25 : decode cX0_learn 25 = .ok (.iload_n 2, 1) := by decide +kernel
theorem dX0_learn_26 : decode cX0_learn 26 = .ok (.baload, 1) := by decide +kernel
theorem dX0_learn_27 : decode cX0_learn 27 = .ok (.ifCond .eq 12, 3) := by decide +kernel
theorem dX0_learn_30 : decode cX0_learn 30 = .ok (.aload_n 0, 1) := by decide +kernel
theorem dX0_learn_31 : decode cX0_learn 31 = .ok (.iload_n 1, 1) := by decide +kernel
theorem dX0_learn_32 : decode cX0_learn 32 = .ok (.iload_n 2, 1) := by decide +kernel
theorem dX0_learn_33 : decode cX0_learn 33 = .ok (.invokevirtual 80, 3) := by decide +kernel
theorem dX0_learn_36 : decode cX0_learn 36 = .ok (.goto 14, 3) := by decide +kernel
theorem dX0_learn_39 : decode cX0_learn 39 = .ok (.aload_n 0, 1) := by decide +kernel
theorem dX0_learn_40 : decode cX0_learn 40 = .ok (.iload_n 1, 1) := by decide +kernel
theorem dX0_learn_41 : decode cX0_learn 41 = .ok (.aload_n 0, 1) := by decide +kernel
theorem dX0_learn_42 : decode cX0_learn 42 = .ok (.getfield 29, 3) := by decide +kernel
theorem dX0_learn_45 : decode cX0_learn 45 = .ok (.iload_n 2, 1) := by decide +kernel
theorem dX0_learn_46 : decode cX0_learn 46 = .ok (.iaload, 1) := by decide +kernel
theorem dX0_learn_47 : decode cX0_learn 47 = .ok (.invokevirtual 83, 3) := by decide +kernel
theorem dX0_learn_50 : decode cX0_learn 50 = .ok (.return_, 1) := by decide +kernel
abbrev cX0_putInRow : ByteArray := prog_1_method_9_code
def yX0_putInRow : MethodName := ⟨RX0, "putInRow", "(II)V"⟩
theorem dX0_putInRow_0 : decode cX0_putInRow 0 = .ok (.bipush 49, 2) := by decide +kernel
theorem dX0_putInRow_2 : decode cX0_putInRow 2 = .ok (.iload_n 1, 1) := by decide +kernel
theorem dX0_putInRow_3 : decode cX0_putInRow 3 = .ok (.imul, 1) := by decide +kernel
theorem dX0_putInRow_4 : decode cX0_putInRow 4 = .ok (.istore_n 3, 1) := by decide +kernel
theorem dX0_putInRow_5 : decode cX0_putInRow 5 = .ok (.iload_n 3, 1) := by decide +kernel
theorem dX0_putInRow_6 : decode cX0_putInRow 6 = .ok (.iconst 1, 1) := by decide +kernel
theorem dX0_putInRow_7 : decode cX0_putInRow 7 = .ok (.iadd, 1) := by decide +kernel
theorem dX0_putInRow_8 : decode cX0_putInRow 8 = .ok (.aload_n 0, 1) := by decide +kernel
theorem dX0_putInRow_9 : decode cX0_putInRow 9 = .ok (.getfield 23, 3) := by decide +kernel
theorem dX0_putInRow_12 : decode cX0_putInRow 12 = .ok (.iload_n 2, 1) := by decide +kernel
theorem dX0_putInRow_13 : decode cX0_putInRow 13 = .ok (.iaload, 1) := by decide +kernel
theorem dX0_putInRow_14 : decode cX0_putInRow 14 = .ok (.iadd, 1) := by decide +kernel
theorem dX0_putInRow_15 : decode cX0_putInRow 15 = .ok (.istore 4, 2) := by decide +kernel
theorem dX0_putInRow_17 : decode cX0_putInRow 17 = .ok (.iconst 0, 1) := by decide +kernel
theorem dX0_putInRow_18 : decode cX0_putInRow 18 = .ok (.istore 5, 2) := by decide +kernel
theorem dX0_putInRow_20 : decode cX0_putInRow 20 = .ok (.iload 5, 2) := by decide +kernel
theorem dX0_putInRow_22 : decode cX0_putInRow 22 = .ok (.bipush 48, 2) := by decide +kernel
theorem dX0_putInRow_24 : decode cX0_putInRow 24 = .ok (.if_icmp .ge 47, 3) := by decide +kernel
theorem dX0_putInRow_27 : decode cX0_putInRow 27 = .ok (.aload_n 0, 1) := by decide +kernel
theorem dX0_putInRow_28 : decode cX0_putInRow 28 = .ok (.getfield 44, 3) := by decide +kernel
theorem dX0_putInRow_31 : decode cX0_putInRow 31 = .ok (.iload 4, 2) := by decide +kernel
theorem dX0_putInRow_33 : decode cX0_putInRow 33 = .ok (.iaload, 1) := by decide +kernel
theorem dX0_putInRow_34 : decode cX0_putInRow 34 = .ok (.ifCond .lt 37, 3) := by decide +kernel
theorem dX0_putInRow_37 : decode cX0_putInRow 37 = .ok (.aload_n 0, 1) := by decide +kernel
theorem dX0_putInRow_38 : decode cX0_putInRow 38 = .ok (.aload_n 0, 1) := by decide +kernel
theorem dX0_putInRow_39 : decode cX0_putInRow 39 = .ok (.getfield 44, 3) := by decide +kernel
theorem dX0_putInRow_42 : decode cX0_putInRow 42 = .ok (.iload 4, 2) := by decide +kernel
theorem dX0_putInRow_44 : decode cX0_putInRow 44 = .ok (.iaload, 1) := by decide +kernel
theorem dX0_putInRow_45 : decode cX0_putInRow 45 = .ok (.iload_n 2, 1) := by decide +kernel
theorem dX0_putInRow_46 : decode cX0_putInRow 46 = .ok (.invokevirtual 86, 3) := by decide +kernel
theorem dX0_putInRow_49 : decode cX0_putInRow 49 = .ok (.ifCond .eq 22, 3) := by decide +kernel
theorem dX0_putInRow_52 : decode cX0_putInRow 52 = .ok (.iload_n 3, 1) := by decide +kernel
theorem dX0_putInRow_53 : decode cX0_putInRow 53 = .ok (.iconst 1, 1) := by decide +kernel
theorem dX0_putInRow_54 : decode cX0_putInRow 54 = .ok (.iadd, 1) := by decide +kernel
theorem dX0_putInRow_55 : decode cX0_putInRow 55 = .ok (.aload_n 0, 1) := by decide +kernel
theorem dX0_putInRow_56 : decode cX0_putInRow 56 = .ok (.getfield 44, 3) := by decide +kernel
theorem dX0_putInRow_59 : decode cX0_putInRow 59 = .ok (.iload 4, 2) := by decide +kernel
theorem dX0_putInRow_61 : decode cX0_putInRow 61 = .ok (.iaload, 1) := by decide +kernel
theorem dX0_putInRow_62 : decode cX0_putInRow 62 = .ok (.iadd, 1) := by decide +kernel
theorem dX0_putInRow_63 : decode cX0_putInRow 63 = .ok (.istore 4, 2) := by decide +kernel
theorem dX0_putInRow_65 : decode cX0_putInRow 65 = .ok (.iinc 5 1, 3) := by decide +kernel
theorem dX0_putInRow_68 : decode cX0_putInRow 68 = .ok (.goto (-48), 3) := by decide +kernel
theorem dX0_putInRow_71 : decode cX0_putInRow 71 = .ok (.aload_n 0, 1) := by decide +kernel
theorem dX0_putInRow_72 : decode cX0_putInRow 72 = .ok (.getfield 44, 3) := by decide +kernel
theorem dX0_putInRow_75 : decode cX0_putInRow 75 = .ok (.iload_n 3, 1) := by decide +kernel
theorem dX0_putInRow_76 : decode cX0_putInRow 76 = .ok (.iconst 1, 1) := by decide +kernel
theorem dX0_putInRow_77 : decode cX0_putInRow 77 = .ok (.iadd, 1) := by decide +kernel
theorem dX0_putInRow_78 : decode cX0_putInRow 78 = .ok (.iload_n 2, 1) := by decide +kernel
theorem dX0_putInRow_79 : decode cX0_putInRow 79 = .ok (.iadd, 1) := by decide +kernel
theorem dX0_putInRow_80 : decode cX0_putInRow 80 = .ok (.aload_n 0, 1) := by decide +kernel
theorem dX0_putInRow_81 : decode cX0_putInRow 81 = .ok (.getfield 44, 3) := by decide +kernel
theorem dX0_putInRow_84 : decode cX0_putInRow 84 = .ok (.iload 4, 2) := by decide +kernel
theorem dX0_putInRow_86 : decode cX0_putInRow 86 = .ok (.iaload, 1) := by decide +kernel
theorem dX0_putInRow_87 : decode cX0_putInRow 87 = .ok (.iastore, 1) := by decide +kernel
theorem dX0_putInRow_88 : decode cX0_putInRow 88 = .ok (.aload_n 0, 1) := by decide +kernel
theorem dX0_putInRow_89 : decode cX0_putInRow 89 = .ok (.getfield 44, 3) := by decide +kernel
theorem dX0_putInRow_92 : decode cX0_putInRow 92 = .ok (.iload 4, 2) := by decide +kernel
theorem dX0_putInRow_94 : decode cX0_putInRow 94 = .ok (.iload_n 2, 1) := by decide +kernel
theorem dX0_putInRow_95 : decode cX0_putInRow 95 = .ok (.iastore, 1) := by decide +kernel
theorem dX0_putInRow_96 : decode cX0_putInRow 96 = .ok (.aload_n 0, 1) := by decide +kernel
theorem dX0_putInRow_97 : decode cX0_putInRow 97 = .ok (.getfield 47, 3) := by decide +kernel
theorem dX0_putInRow_100 : decode cX0_putInRow 100 = .ok (.iload_n 3, 1) := by decide +kernel
theorem dX0_putInRow_101 : decode cX0_putInRow 101 = .ok (.iconst 1, 1) := by decide +kernel
theorem dX0_putInRow_102 : decode cX0_putInRow 102 = .ok (.iadd, 1) := by decide +kernel
theorem dX0_putInRow_103 : decode cX0_putInRow 103 = .ok (.iload_n 2, 1) := by decide +kernel
theorem dX0_putInRow_104 : decode cX0_putInRow 104 = .ok (.iadd, 1) := by decide +kernel
theorem dX0_putInRow_105 : decode cX0_putInRow 105 = .ok (.iconst 0, 1) := by decide +kernel
theorem dX0_putInRow_106 : decode cX0_putInRow 106 = .ok (.bastore, 1) := by decide +kernel
theorem dX0_putInRow_107 : decode cX0_putInRow 107 = .ok (.aload_n 0, 1) := by decide +kernel
theorem dX0_putInRow_108 : decode cX0_putInRow 108 = .ok (.getfield 50, 3) := by decide +kernel
theorem dX0_putInRow_111 : decode cX0_putInRow 111 = .ok (.iload_n 1, 1) := by decide +kernel
theorem dX0_putInRow_112 : decode cX0_putInRow 112 = .ok (.dup2, 1) := by decide +kernel
theorem dX0_putInRow_113 : decode cX0_putInRow 113 = .ok (.iaload, 1) := by decide +kernel
theorem dX0_putInRow_114 : decode cX0_putInRow 114 = .ok (.iconst 1, 1) := by decide +kernel
theorem dX0_putInRow_115 : decode cX0_putInRow 115 = .ok (.iadd, 1) := by decide +kernel
theorem dX0_putInRow_116 : decode cX0_putInRow 116 = .ok (.iastore, 1) := by decide +kernel
theorem dX0_putInRow_117 : decode cX0_putInRow 117 = .ok (.aload_n 0, 1) := by decide +kernel
theorem dX0_putInRow_118 : decode cX0_putInRow 118 = .ok (.getfield 53, 3) := by decide +kernel
theorem dX0_putInRow_121 : decode cX0_putInRow 121 = .ok (.iload_n 1, 1) := by decide +kernel
theorem dX0_putInRow_122 : decode cX0_putInRow 122 = .ok (.dup2, 1) := by decide +kernel
theorem dX0_putInRow_123 : decode cX0_putInRow 123 = .ok (.iaload, 1) := by decide +kernel
theorem dX0_putInRow_124 : decode cX0_putInRow 124 = .ok (.iconst 1, 1) := by decide +kernel
theorem dX0_putInRow_125 : decode cX0_putInRow 125 = .ok (.iadd, 1) := by decide +kernel
theorem dX0_putInRow_126 : decode cX0_putInRow 126 = .ok (.iastore, 1) := by decide +kernel
theorem dX0_putInRow_127 : decode cX0_putInRow 127 = .ok (.aload_n 0, 1) := by decide +kernel
theorem dX0_putInRow_128 : decode cX0_putInRow 128 = .ok (.getfield 26, 3) := by decide +kernel
theorem dX0_putInRow_131 : decode cX0_putInRow 131 = .ok (.iload_n 2, 1) := by decide +kernel
theorem dX0_putInRow_132 : decode cX0_putInRow 132 = .ok (.iaload, 1) := by decide +kernel
theorem dX0_putInRow_133 : decode cX0_putInRow 133 = .ok (.aload_n 0, 1) := by decide +kernel
theorem dX0_putInRow_134 : decode cX0_putInRow 134 = .ok (.getfield 41, 3) := by decide +kernel
theorem dX0_putInRow_137 : decode cX0_putInRow 137 = .ok (.iload_n 1, 1) := by decide +kernel
theorem dX0_putInRow_138 : decode cX0_putInRow 138 = .ok (.iaload, 1) := by decide +kernel
theorem dX0_putInRow_139 : decode cX0_putInRow 139 = .ok (.if_icmp .le 15, 3) := by decide +kernel
theorem dX0_putInRow_142 : decode cX0_putInRow 142 = .ok (.aload_n 0, 1) := by decide +kernel
theorem dX0_putInRow_143 : decode cX0_putInRow 143 = .ok (.getfield 41, 3) := by decide +kernel
theorem dX0_putInRow_146 : decode cX0_putInRow 146 = .ok (.iload_n 1, 1) := by decide +kernel
theorem dX0_putInRow_147 : decode cX0_putInRow 147 = .ok (.aload_n 0, 1) := by decide +kernel
theorem dX0_putInRow_148 : decode cX0_putInRow 148 = .ok (.getfield 26, 3) := by decide +kernel
theorem dX0_putInRow_151 : decode cX0_putInRow 151 = .ok (.iload_n 2, 1) := by decide +kernel
theorem dX0_putInRow_152 : decode cX0_putInRow 152 = .ok (.iaload, 1) := by decide +kernel
theorem dX0_putInRow_153 : decode cX0_putInRow 153 = .ok (.iastore, 1) := by decide +kernel
theorem dX0_putInRow_154 : decode cX0_putInRow 154 = .ok (.return_, 1) := by decide +kernel
abbrev cX0_isGreater : ByteArray := prog_1_method_10_code
def yX0_isGreater : MethodName := ⟨RX0, "isGreater", "(II)Z"⟩
theorem dX0_isGreater_0 : decode cX0_isGreater 0 = .ok (.aload_n 0, 1) := by decide +kernel
theorem dX0_isGreater_1 : decode cX0_isGreater 1 = .ok (.getfield 26, 3) := by decide +kernel
theorem dX0_isGreater_4 : decode cX0_isGreater 4 = .ok (.iload_n 1, 1) := by decide +kernel
theorem dX0_isGreater_5 : decode cX0_isGreater 5 = .ok (.iaload, 1) := by decide +kernel
theorem dX0_isGreater_6 : decode cX0_isGreater 6 = .ok (.aload_n 0, 1) := by decide +kernel
theorem dX0_isGreater_7 : decode cX0_isGreater 7 = .ok (.getfield 26, 3) := by decide +kernel
theorem dX0_isGreater_10 : decode cX0_isGreater 10 = .ok (.iload_n 2, 1) := by decide +kernel
theorem dX0_isGreater_11 : decode cX0_isGreater 11 = .ok (.iaload, 1) := by decide +kernel
theorem dX0_isGreater_12 : decode cX0_isGreater 12 = .ok (.if_icmp .eq 24, 3) := by decide +kernel
theorem dX0_isGreater_15 : decode cX0_isGreater 15 = .ok (.aload_n 0, 1) := by decide +kernel
theorem dX0_isGreater_16 : decode cX0_isGreater 16 = .ok (.getfield 26, 3) := by decide +kernel
theorem dX0_isGreater_19 : decode cX0_isGreater 19 = .ok (.iload_n 1, 1) := by decide +kernel
theorem dX0_isGreater_20 : decode cX0_isGreater 20 = .ok (.iaload, 1) := by decide +kernel
theorem dX0_isGreater_21 : decode cX0_isGreater 21 = .ok (.aload_n 0, 1) := by decide +kernel
theorem dX0_isGreater_22 : decode cX0_isGreater 22 = .ok (.getfield 26, 3) := by decide +kernel
theorem dX0_isGreater_25 : decode cX0_isGreater 25 = .ok (.iload_n 2, 1) := by decide +kernel
theorem dX0_isGreater_26 : decode cX0_isGreater 26 = .ok (.iaload, 1) := by decide +kernel
theorem dX0_isGreater_27 : decode cX0_isGreater 27 = .ok (.if_icmp .le 7, 3) := by decide +kernel
theorem dX0_isGreater_30 : decode cX0_isGreater 30 = .ok (.iconst 1, 1) := by decide +kernel
theorem dX0_isGreater_31 : decode cX0_isGreater 31 = .ok (.goto 4, 3) := by decide +kernel
theorem dX0_isGreater_34 : decode cX0_isGreater 34 = .ok (.iconst 0, 1) := by decide +kernel
theorem dX0_isGreater_35 : decode cX0_isGreater 35 = .ok (.ireturn, 1) := by decide +kernel
theorem dX0_isGreater_36 : decode cX0_isGreater 36 = .ok (.aload_n 0, 1) := by decide +kernel
theorem dX0_isGreater_37 : decode cX0_isGreater 37 = .ok (.getfield 13, 3) := by decide +kernel
theorem dX0_isGreater_40 : decode cX0_isGreater 40 = .ok (.iload_n 1, 1) := by decide +kernel
theorem dX0_isGreater_41 : decode cX0_isGreater 41 = .ok (.iaload, 1) := by decide +kernel
theorem dX0_isGreater_42 : decode cX0_isGreater 42 = .ok (.aload_n 0, 1) := by decide +kernel
theorem dX0_isGreater_43 : decode cX0_isGreater 43 = .ok (.getfield 13, 3) := by decide +kernel
theorem dX0_isGreater_46 : decode cX0_isGreater 46 = .ok (.iload_n 2, 1) := by decide +kernel
theorem dX0_isGreater_47 : decode cX0_isGreater 47 = .ok (.iaload, 1) := by decide +kernel
theorem dX0_isGreater_48 : decode cX0_isGreater 48 = .ok (.if_icmp .le 7, 3) := by decide +kernel
theorem dX0_isGreater_51 : decode cX0_isGreater 51 = .ok (.iconst 1, 1) := by decide +kernel
theorem dX0_isGreater_52 : decode cX0_isGreater 52 = .ok (.goto 4, 3) := by decide +kernel
theorem dX0_isGreater_55 : decode cX0_isGreater 55 = .ok (.iconst 0, 1) := by decide +kernel
theorem dX0_isGreater_56 : decode cX0_isGreater 56 = .ok (.ireturn, 1) := by decide +kernel
abbrev cX0_takeAway : ByteArray := prog_1_method_11_code
def yX0_takeAway : MethodName := ⟨RX0, "takeAway", "(II)V"⟩
theorem dX0_takeAway_0 : decode cX0_takeAway 0 = .ok (.bipush 49, 2) := by decide +kernel
theorem dX0_takeAway_2 : decode cX0_takeAway 2 = .ok (.iload_n 1, 1) := by decide +kernel
theorem dX0_takeAway_3 : decode cX0_takeAway 3 = .ok (.imul, 1) := by decide +kernel
theorem dX0_takeAway_4 : decode cX0_takeAway 4 = .ok (.iconst 1, 1) := by decide +kernel
theorem dX0_takeAway_5 : decode cX0_takeAway 5 = .ok (.iadd, 1) := by decide +kernel
theorem dX0_takeAway_6 : decode cX0_takeAway 6 = .ok (.iload_n 2, 1) := by decide +kernel
theorem dX0_takeAway_7 : decode cX0_takeAway 7 = .ok (.iadd, 1) := by decide +kernel
theorem dX0_takeAway_8 : decode cX0_takeAway 8 = .ok (.istore_n 3, 1) := by decide +kernel
theorem dX0_takeAway_9 : decode cX0_takeAway 9 = .ok (.aload_n 0, 1) := by decide +kernel
theorem dX0_takeAway_10 : decode cX0_takeAway 10 = .ok (.getfield 47, 3) := by decide +kernel
theorem dX0_takeAway_13 : decode cX0_takeAway 13 = .ok (.iload_n 3, 1) := by decide +kernel
theorem dX0_takeAway_14 : decode cX0_takeAway 14 = .ok (.baload, 1) := by decide +kernel
theorem dX0_takeAway_15 : decode cX0_takeAway 15 = .ok (.ifCond .ne 20, 3) := by decide +kernel
theorem dX0_takeAway_18 : decode cX0_takeAway 18 = .ok (.aload_n 0, 1) := by decide +kernel
theorem dX0_takeAway_19 : decode cX0_takeAway 19 = .ok (.getfield 47, 3) := by decide +kernel
theorem dX0_takeAway_22 : decode cX0_takeAway 22 = .ok (.iload_n 3, 1) := by decide +kernel
theorem dX0_takeAway_23 : decode cX0_takeAway 23 = .ok (.iconst 1, 1) := by decide +kernel
theorem dX0_takeAway_24 : decode cX0_takeAway 24 = .ok (.bastore, 1) := by decide +kernel
theorem dX0_takeAway_25 : decode cX0_takeAway 25 = .ok (.aload_n 0, 1) := by decide +kernel
theorem dX0_takeAway_26 : decode cX0_takeAway 26 = .ok (.getfield 53, 3) := by decide +kernel
theorem dX0_takeAway_29 : decode cX0_takeAway 29 = .ok (.iload_n 1, 1) := by decide +kernel
theorem dX0_takeAway_30 : decode cX0_takeAway 30 = .ok (.dup2, 1) := by decide +kernel
theorem dX0_takeAway_31 : decode cX0_takeAway 31 = .ok (.iaload, 1) := by decide +kernel
theorem dX0_takeAway_32 : decode cX0_takeAway 32 = .ok (.iconst 1, 1) := by decide +kernel
theorem dX0_takeAway_33 : decode cX0_takeAway 33 = .ok (.isub, 1) := by decide +kernel
theorem dX0_takeAway_34 : decode cX0_takeAway 34 = .ok (.iastore, 1) := by decide +kernel
theorem dX0_takeAway_35 : decode cX0_takeAway 35 = .ok (.return_, 1) := by decide +kernel
abbrev cX0_delete : ByteArray := prog_1_method_3_code
def yX0_delete : MethodName := ⟨RX0, "delete", "(II)I"⟩
theorem dX0_delete_0 : decode cX0_delete 0 = .ok (.iload_n 1, 1) := by decide +kernel
theorem dX0_delete_1 : decode cX0_delete 1 = .ok (.invokestatic 56, 3) := by decide +kernel
theorem dX0_delete_4 : decode cX0_delete 4 = .ok (.ifCond .eq 26, 3) := by decide +kernel
theorem dX0_delete_7 : decode cX0_delete 7 = .ok (.iload_n 2, 1) := by decide +kernel
theorem dX0_delete_8 : decode cX0_delete 8 = .ok (.ifCond .lt 22, 3) := by decide +kernel
theorem dX0_delete_11 : decode cX0_delete 11 = .ok (.iload_n 2, 1) := by decide +kernel
theorem dX0_delete_12 : decode cX0_delete 12 = .ok (.aload_n 0, 1) := by decide +kernel
theorem dX0_delete_13 : decode cX0_delete 13 = .ok (.getfield 53, 3) := by decide +kernel
theorem dX0_delete_16 : decode cX0_delete 16 = .ok (.iload_n 1, 1) := by decide +kernel
theorem dX0_delete_17 : decode cX0_delete 17 = .ok (.iaload, 1) := by decide +kernel
theorem dX0_delete_18 : decode cX0_delete 18 = .ok (.if_icmp .ge 12, 3) := by decide +kernel
theorem dX0_delete_21 : decode cX0_delete 21 = .ok (.aload_n 0, 1) := by decide +kernel
theorem dX0_delete_22 : decode cX0_delete 22 = .ok (.getfield 60, 3) := by decide +kernel
theorem dX0_delete_25 : decode cX0_delete 25 = .ok (.bipush 48, 2) := by decide +kernel
theorem dX0_delete_27 : decode cX0_delete 27 = .ok (.if_icmp .lt 5, 3) := by decide +kernel
theorem dX0_delete_30 : decode cX0_delete 30 = .ok (.iconst (-1), 1) := by decide +kernel
theorem dX0_delete_31 : decode cX0_delete 31 = .ok (.ireturn, 1) := by decide +kernel
theorem dX0_delete_32 : decode cX0_delete 32 = .ok (.aload_n 0, 1) := by decide +kernel
theorem dX0_delete_33 : decode cX0_delete 33 = .ok (.iload_n 1, 1) := by decide +kernel
theorem dX0_delete_34 : decode cX0_delete 34 = .ok (.iload_n 2, 1) := by decide +kernel
theorem dX0_delete_35 : decode cX0_delete 35 = .ok (.invokevirtual 64, 3) := by decide +kernel
theorem dX0_delete_38 : decode cX0_delete 38 = .ok (.istore_n 3, 1) := by decide +kernel
theorem dX0_delete_39 : decode cX0_delete 39 = .ok (.aload_n 0, 1) := by decide +kernel
theorem dX0_delete_40 : decode cX0_delete 40 = .ok (.iload_n 1, 1) := by decide +kernel
theorem dX0_delete_41 : decode cX0_delete 41 = .ok (.iconst 0, 1) := by decide +kernel
theorem dX0_delete_42 : decode cX0_delete 42 = .ok (.invokevirtual 68, 3) := by decide +kernel
theorem dX0_delete_45 : decode cX0_delete 45 = .ok (.istore 4, 2) := by decide +kernel
theorem dX0_delete_47 : decode cX0_delete 47 = .ok (.aload_n 0, 1) := by decide +kernel
theorem dX0_delete_48 : decode cX0_delete 48 = .ok (.getfield 29, 3) := by decide +kernel
theorem dX0_delete_51 : decode cX0_delete 51 = .ok (.iload 4, 2) := by decide +kernel
theorem dX0_delete_53 : decode cX0_delete 53 = .ok (.iload_n 3, 1) := by decide +kernel
theorem dX0_delete_54 : decode cX0_delete 54 = .ok (.iastore, 1) := by decide +kernel
theorem dX0_delete_55 : decode cX0_delete 55 = .ok (.aload_n 0, 1) := by decide +kernel
theorem dX0_delete_56 : decode cX0_delete 56 = .ok (.iload_n 1, 1) := by decide +kernel
theorem dX0_delete_57 : decode cX0_delete 57 = .ok (.iload 4, 2) := by decide +kernel
theorem dX0_delete_59 : decode cX0_delete 59 = .ok (.invokevirtual 72, 3) := by decide +kernel
theorem dX0_delete_62 : decode cX0_delete 62 = .ok (.aload_n 0, 1) := by decide +kernel
theorem dX0_delete_63 : decode cX0_delete 63 = .ok (.getfield 53, 3) := by decide +kernel
theorem dX0_delete_66 : decode cX0_delete 66 = .ok (.iload_n 1, 1) := by decide +kernel
theorem dX0_delete_67 : decode cX0_delete 67 = .ok (.iaload, 1) := by decide +kernel
theorem dX0_delete_68 : decode cX0_delete 68 = .ok (.ireturn, 1) := by decide +kernel
abbrev cX0_deliver : ByteArray := prog_1_method_5_code
def yX0_deliver : MethodName := ⟨RX0, "deliver", "(II)I"⟩
theorem dX0_deliver_0 : decode cX0_deliver 0 = .ok (.iload_n 1, 1) := by decide +kernel
theorem dX0_deliver_1 : decode cX0_deliver 1 = .ok (.invokestatic 56, 3) := by decide +kernel
theorem dX0_deliver_4 : decode cX0_deliver 4 = .ok (.ifCond .eq 10, 3) := by decide +kernel
theorem dX0_deliver_7 : decode cX0_deliver 7 = .ok (.iload_n 2, 1) := by decide +kernel
theorem dX0_deliver_8 : decode cX0_deliver 8 = .ok (.invokestatic 56, 3) := by decide +kernel
theorem dX0_deliver_11 : decode cX0_deliver 11 = .ok (.ifCond .ne 5, 3) := by decide +kernel
theorem dX0_deliver_14 : decode cX0_deliver 14 = .ok (.iconst (-1), 1) := by decide +kernel
theorem dX0_deliver_15 : decode cX0_deliver 15 = .ok (.ireturn, 1) := by decide +kernel
theorem dX0_deliver_16 : decode cX0_deliver 16 = .ok (.aload_n 0, 1) := by decide +kernel
theorem dX0_deliver_17 : decode cX0_deliver 17 = .ok (.getfield 38, 3) := by decide +kernel
theorem dX0_deliver_20 : decode cX0_deliver 20 = .ok (.iconst 3, 1) := by decide +kernel
theorem dX0_deliver_21 : decode cX0_deliver 21 = .ok (.iload_n 2, 1) := by decide +kernel
theorem dX0_deliver_22 : decode cX0_deliver 22 = .ok (.imul, 1) := by decide +kernel
theorem dX0_deliver_23 : decode cX0_deliver 23 = .ok (.iload_n 1, 1) := by decide +kernel
theorem dX0_deliver_24 : decode cX0_deliver 24 = .ok (.iadd, 1) := by decide +kernel
theorem dX0_deliver_25 : decode cX0_deliver 25 = .ok (.iaload, 1) := by decide +kernel
theorem dX0_deliver_26 : decode cX0_deliver 26 = .ok (.iconst 1, 1) := by decide +kernel
theorem dX0_deliver_27 : decode cX0_deliver 27 = .ok (.iadd, 1) := by decide +kernel
theorem dX0_deliver_28 : decode cX0_deliver 28 = .ok (.istore_n 3, 1) := by decide +kernel
theorem dX0_deliver_29 : decode cX0_deliver 29 = .ok (.iload_n 3, 1) := by decide +kernel
theorem dX0_deliver_30 : decode cX0_deliver 30 = .ok (.aload_n 0, 1) := by decide +kernel
theorem dX0_deliver_31 : decode cX0_deliver 31 = .ok (.getfield 32, 3) := by decide +kernel
theorem dX0_deliver_34 : decode cX0_deliver 34 = .ok (.iload_n 1, 1) := by decide +kernel
theorem dX0_deliver_35 : decode cX0_deliver 35 = .ok (.iaload, 1) := by decide +kernel
theorem dX0_deliver_36 : decode cX0_deliver 36 = .ok (.if_icmp .le 5, 3) := by decide +kernel
theorem dX0_deliver_39 : decode cX0_deliver 39 = .ok (.iconst (-1), 1) := by decide +kernel
theorem dX0_deliver_40 : decode cX0_deliver 40 = .ok (.ireturn, 1) := by decide +kernel
theorem dX0_deliver_41 : decode cX0_deliver 41 = .ok (.aload_n 0, 1) := by decide +kernel
theorem dX0_deliver_42 : decode cX0_deliver 42 = .ok (.getfield 35, 3) := by decide +kernel
theorem dX0_deliver_45 : decode cX0_deliver 45 = .ok (.bipush 49, 2) := by decide +kernel
theorem dX0_deliver_47 : decode cX0_deliver 47 = .ok (.iload_n 1, 1) := by decide +kernel
theorem dX0_deliver_48 : decode cX0_deliver 48 = .ok (.imul, 1) := by decide +kernel
theorem dX0_deliver_49 : decode cX0_deliver 49 = .ok (.iload_n 3, 1) := by decide +kernel
theorem dX0_deliver_50 : decode cX0_deliver 50 = .ok (.iadd, 1) := by decide +kernel
theorem dX0_deliver_51 : decode cX0_deliver 51 = .ok (.iaload, 1) := by decide +kernel
theorem dX0_deliver_52 : decode cX0_deliver 52 = .ok (.istore 4, 2) := by decide +kernel
theorem dX0_deliver_54 : decode cX0_deliver 54 = .ok (.aload_n 0, 1) := by decide +kernel
theorem dX0_deliver_55 : decode cX0_deliver 55 = .ok (.getfield 7, 3) := by decide +kernel
theorem dX0_deliver_58 : decode cX0_deliver 58 = .ok (.iload 4, 2) := by decide +kernel
theorem dX0_deliver_60 : decode cX0_deliver 60 = .ok (.baload, 1) := by decide +kernel
theorem dX0_deliver_61 : decode cX0_deliver 61 = .ok (.ifCond .eq 13, 3) := by decide +kernel
theorem dX0_deliver_64 : decode cX0_deliver 64 = .ok (.aload_n 0, 1) := by decide +kernel
theorem dX0_deliver_65 : decode cX0_deliver 65 = .ok (.getfield 23, 3) := by decide +kernel
theorem dX0_deliver_68 : decode cX0_deliver 68 = .ok (.iload 4, 2) := by decide +kernel
theorem dX0_deliver_70 : decode cX0_deliver 70 = .ok (.iaload, 1) := by decide +kernel
theorem dX0_deliver_71 : decode cX0_deliver 71 = .ok (.goto 10, 3) := by decide +kernel
theorem dX0_deliver_74 : decode cX0_deliver 74 = .ok (.aload_n 0, 1) := by decide +kernel
theorem dX0_deliver_75 : decode cX0_deliver 75 = .ok (.getfield 29, 3) := by decide +kernel
theorem dX0_deliver_78 : decode cX0_deliver 78 = .ok (.iload 4, 2) := by decide +kernel
theorem dX0_deliver_80 : decode cX0_deliver 80 = .ok (.iaload, 1) := by decide +kernel
theorem dX0_deliver_81 : decode cX0_deliver 81 = .ok (.istore 5, 2) := by decide +kernel
theorem dX0_deliver_83 : decode cX0_deliver 83 = .ok (.iload 5, 2) := by decide +kernel
theorem dX0_deliver_85 : decode cX0_deliver 85 = .ok (.ifCond .lt 16, 3) := by decide +kernel
theorem dX0_deliver_88 : decode cX0_deliver 88 = .ok (.aload_n 0, 1) := by decide +kernel
theorem dX0_deliver_89 : decode cX0_deliver 89 = .ok (.iload_n 2, 1) := by decide +kernel
theorem dX0_deliver_90 : decode cX0_deliver 90 = .ok (.iload 5, 2) := by decide +kernel
theorem dX0_deliver_92 : decode cX0_deliver 92 = .ok (.invokevirtual 76, 3) := by decide +kernel
theorem dX0_deliver_95 : decode cX0_deliver 95 = .ok (.ifCond .ne 6, 3) := by decide +kernel
theorem dX0_deliver_98 : decode cX0_deliver 98 = .ok (.bipush (-2), 2) := by decide +kernel
theorem dX0_deliver_100 : decode cX0_deliver 100 = .ok (.ireturn, 1) := by decide +kernel
theorem dX0_deliver_101 : decode cX0_deliver 101 = .ok (.aload_n 0, 1) := by decide +kernel
theorem dX0_deliver_102 : decode cX0_deliver 102 = .ok (.iload_n 2, 1) := by decide +kernel
theorem dX0_deliver_103 : decode cX0_deliver 103 = .ok (.iload 4, 2) := by decide +kernel
theorem dX0_deliver_105 : decode cX0_deliver 105 = .ok (.invokevirtual 72, 3) := by decide +kernel
theorem dX0_deliver_108 : decode cX0_deliver 108 = .ok (.iconst 0, 1) := by decide +kernel
theorem dX0_deliver_109 : decode cX0_deliver 109 = .ok (.ireturn, 1) := by decide +kernel
abbrev cX0_isKnown : ByteArray := prog_1_method_7_code
def yX0_isKnown : MethodName := ⟨RX0, "isKnown", "(II)Z"⟩
theorem dX0_isKnown_0 : decode cX0_isKnown 0 = .ok (.aload_n 0, 1) := by decide +kernel
theorem dX0_isKnown_1 : decode cX0_isKnown 1 = .ok (.getfield 17, 3) := by decide +kernel
theorem dX0_isKnown_4 : decode cX0_isKnown 4 = .ok (.iload_n 2, 1) := by decide +kernel
theorem dX0_isKnown_5 : decode cX0_isKnown 5 = .ok (.iaload, 1) := by decide +kernel
theorem dX0_isKnown_6 : decode cX0_isKnown 6 = .ok (.aload_n 0, 1) := by decide +kernel
theorem dX0_isKnown_7 : decode cX0_isKnown 7 = .ok (.getfield 38, 3) := by decide +kernel
theorem dX0_isKnown_10 : decode cX0_isKnown 10 = .ok (.iconst 3, 1) := by decide +kernel
theorem dX0_isKnown_11 : decode cX0_isKnown 11 = .ok (.iload_n 1, 1) := by decide +kernel
theorem dX0_isKnown_12 : decode cX0_isKnown 12 = .ok (.imul, 1) := by decide +kernel
theorem dX0_isKnown_13 : decode cX0_isKnown 13 = .ok (.aload_n 0, 1) := by decide +kernel
theorem dX0_isKnown_14 : decode cX0_isKnown 14 = .ok (.getfield 13, 3) := by decide +kernel
theorem dX0_isKnown_17 : decode cX0_isKnown 17 = .ok (.iload_n 2, 1) := by decide +kernel
theorem dX0_isKnown_18 : decode cX0_isKnown 18 = .ok (.iaload, 1) := by decide +kernel
theorem dX0_isKnown_19 : decode cX0_isKnown 19 = .ok (.iadd, 1) := by decide +kernel
theorem dX0_isKnown_20 : decode cX0_isKnown 20 = .ok (.iaload, 1) := by decide +kernel
theorem dX0_isKnown_21 : decode cX0_isKnown 21 = .ok (.if_icmp .gt 7, 3) := by decide +kernel
theorem dX0_isKnown_24 : decode cX0_isKnown 24 = .ok (.iconst 1, 1) := by decide +kernel
theorem dX0_isKnown_25 : decode cX0_isKnown 25 = .ok (.goto 4, 3) := by decide +kernel
theorem dX0_isKnown_28 : decode cX0_isKnown 28 = .ok (.iconst 0, 1) := by decide +kernel
theorem dX0_isKnown_29 : decode cX0_isKnown 29 = .ok (.ireturn, 1) := by decide +kernel
abbrev cX0_sync : ByteArray := prog_1_method_6_code
def yX0_sync : MethodName := ⟨RX0, "sync", "(II)I"⟩
theorem dX0_sync_0 : decode cX0_sync 0 = .ok (.iload_n 1, 1) := by decide +kernel
theorem dX0_sync_1 : decode cX0_sync 1 = .ok (.invokestatic 56, 3) := by decide +kernel
theorem dX0_sync_4 : decode cX0_sync 4 = .ok (.ifCond .eq 10, 3) := by decide +kernel
theorem dX0_sync_7 : decode cX0_sync 7 = .ok (.iload_n 2, 1) := by decide +kernel
theorem dX0_sync_8 : decode cX0_sync 8 = .ok (.invokestatic 56, 3) := by decide +kernel
theorem dX0_sync_11 : decode cX0_sync 11 = .ok (.ifCond .ne 5, 3) := by decide +kernel
theorem dX0_sync_14 : decode cX0_sync 14 = .ok (.iconst (-1), 1) := by decide +kernel
theorem dX0_sync_15 : decode cX0_sync 15 = .ok (.ireturn, 1) := by decide +kernel
theorem dX0_sync_16 : decode cX0_sync 16 = .ok (.iconst 0, 1) := by decide +kernel
theorem dX0_sync_17 : decode cX0_sync 17 = .ok (.istore_n 3, 1) := by decide +kernel
theorem dX0_sync_18 : decode cX0_sync 18 = .ok (.iload_n 3, 1) := by decide +kernel
theorem dX0_sync_19 : decode cX0_sync 19 = .ok (.aload_n 0, 1) := by decide +kernel
theorem dX0_sync_20 : decode cX0_sync 20 = .ok (.getfield 60, 3) := by decide +kernel
theorem dX0_sync_23 : decode cX0_sync 23 = .ok (.if_icmp .ge 33, 3) := by decide +kernel
theorem dX0_sync_26 : decode cX0_sync 26 = .ok (.aload_n 0, 1) := by decide +kernel
theorem dX0_sync_27 : decode cX0_sync 27 = .ok (.iload_n 1, 1) := by decide +kernel
theorem dX0_sync_28 : decode cX0_sync 28 = .ok (.iload_n 3, 1) := by decide +kernel
theorem dX0_sync_29 : decode cX0_sync 29 = .ok (.invokevirtual 76, 3) := by decide +kernel
theorem dX0_sync_32 : decode cX0_sync 32 = .ok (.ifCond .eq 18, 3) := by decide +kernel
theorem dX0_sync_35 : decode cX0_sync 35 = .ok (.aload_n 0, 1) := by decide +kernel
theorem dX0_sync_36 : decode cX0_sync 36 = .ok (.iload_n 2, 1) := by decide +kernel
theorem dX0_sync_37 : decode cX0_sync 37 = .ok (.iload_n 3, 1) := by decide +kernel
theorem dX0_sync_38 : decode cX0_sync 38 = .ok (.invokevirtual 76, 3) := by decide +kernel
theorem dX0_sync_41 : decode cX0_sync 41 = .ok (.ifCond .ne 9, 3) := by decide +kernel
theorem dX0_sync_44 : decode cX0_sync 44 = .ok (.aload_n 0, 1) := by decide +kernel
theorem dX0_sync_45 : decode cX0_sync 45 = .ok (.iload_n 2, 1) := by decide +kernel
theorem dX0_sync_46 : decode cX0_sync 46 = .ok (.iload_n 3, 1) := by decide +kernel
theorem dX0_sync_47 : decode cX0_sync 47 = .ok (.invokevirtual 72, 3) := by decide +kernel
theorem dX0_sync_50 : decode cX0_sync 50 = .ok (.iinc 3 1, 3) := by decide +kernel
theorem dX0_sync_53 : decode cX0_sync 53 = .ok (.goto (-35), 3) := by decide +kernel
theorem dX0_sync_56 : decode cX0_sync 56 = .ok (.iconst 0, 1) := by decide +kernel
theorem dX0_sync_57 : decode cX0_sync 57 = .ok (.ireturn, 1) := by decide +kernel
abbrev cX0_length : ByteArray := prog_1_method_13_code
def yX0_length : MethodName := ⟨RX0, "length", "(I)I"⟩
theorem dX0_length_0 : decode cX0_length 0 = .ok (.iload_n 1, 1) := by decide +kernel
theorem dX0_length_1 : decode cX0_length 1 = .ok (.invokestatic 56, 3) := by decide +kernel
theorem dX0_length_4 : decode cX0_length 4 = .ok (.ifCond .eq 12, 3) := by decide +kernel
theorem dX0_length_7 : decode cX0_length 7 = .ok (.aload_n 0, 1) := by decide +kernel
theorem dX0_length_8 : decode cX0_length 8 = .ok (.getfield 53, 3) := by decide +kernel
theorem dX0_length_11 : decode cX0_length 11 = .ok (.iload_n 1, 1) := by decide +kernel
theorem dX0_length_12 : decode cX0_length 12 = .ok (.iaload, 1) := by decide +kernel
theorem dX0_length_13 : decode cX0_length 13 = .ok (.goto 4, 3) := by decide +kernel
theorem dX0_length_16 : decode cX0_length 16 = .ok (.iconst (-1), 1) := by decide +kernel
theorem dX0_length_17 : decode cX0_length 17 = .ok (.ireturn, 1) := by decide +kernel
abbrev cX0_letter : ByteArray := prog_1_method_14_code
def yX0_letter : MethodName := ⟨RX0, "letter", "(II)I"⟩
theorem dX0_letter_0 : decode cX0_letter 0 = .ok (.iload_n 1, 1) := by decide +kernel
theorem dX0_letter_1 : decode cX0_letter 1 = .ok (.invokestatic 56, 3) := by decide +kernel
theorem dX0_letter_4 : decode cX0_letter 4 = .ok (.ifCond .eq 17, 3) := by decide +kernel
theorem dX0_letter_7 : decode cX0_letter 7 = .ok (.iload_n 2, 1) := by decide +kernel
theorem dX0_letter_8 : decode cX0_letter 8 = .ok (.ifCond .lt 13, 3) := by decide +kernel
theorem dX0_letter_11 : decode cX0_letter 11 = .ok (.iload_n 2, 1) := by decide +kernel
theorem dX0_letter_12 : decode cX0_letter 12 = .ok (.aload_n 0, 1) := by decide +kernel
theorem dX0_letter_13 : decode cX0_letter 13 = .ok (.getfield 53, 3) := by decide +kernel
theorem dX0_letter_16 : decode cX0_letter 16 = .ok (.iload_n 1, 1) := by decide +kernel
theorem dX0_letter_17 : decode cX0_letter 17 = .ok (.iaload, 1) := by decide +kernel
theorem dX0_letter_18 : decode cX0_letter 18 = .ok (.if_icmp .lt 5, 3) := by decide +kernel
theorem dX0_letter_21 : decode cX0_letter 21 = .ok (.iconst 0, 1) := by decide +kernel
theorem dX0_letter_22 : decode cX0_letter 22 = .ok (.ireturn, 1) := by decide +kernel
theorem dX0_letter_23 : decode cX0_letter 23 = .ok (.aload_n 0, 1) := by decide +kernel
theorem dX0_letter_24 : decode cX0_letter 24 = .ok (.iload_n 1, 1) := by decide +kernel
theorem dX0_letter_25 : decode cX0_letter 25 = .ok (.iload_n 2, 1) := by decide +kernel
theorem dX0_letter_26 : decode cX0_letter 26 = .ok (.invokevirtual 64, 3) := by decide +kernel
theorem dX0_letter_29 : decode cX0_letter 29 = .ok (.istore_n 3, 1) := by decide +kernel
theorem dX0_letter_30 : decode cX0_letter 30 = .ok (.aload_n 0, 1) := by decide +kernel
theorem dX0_letter_31 : decode cX0_letter 31 = .ok (.getfield 20, 3) := by decide +kernel
theorem dX0_letter_34 : decode cX0_letter 34 = .ok (.iload_n 3, 1) := by decide +kernel
theorem dX0_letter_35 : decode cX0_letter 35 = .ok (.iaload, 1) := by decide +kernel
theorem dX0_letter_36 : decode cX0_letter 36 = .ok (.ireturn, 1) := by decide +kernel
abbrev cX0_row : ByteArray := prog_1_method_15_code
def yX0_row : MethodName := ⟨RX0, "row", "(I)I"⟩
theorem dX0_row_0 : decode cX0_row 0 = .ok (.iload_n 1, 1) := by decide +kernel
theorem dX0_row_1 : decode cX0_row 1 = .ok (.invokestatic 56, 3) := by decide +kernel
theorem dX0_row_4 : decode cX0_row 4 = .ok (.ifCond .eq 12, 3) := by decide +kernel
theorem dX0_row_7 : decode cX0_row 7 = .ok (.aload_n 0, 1) := by decide +kernel
theorem dX0_row_8 : decode cX0_row 8 = .ok (.getfield 50, 3) := by decide +kernel
theorem dX0_row_11 : decode cX0_row 11 = .ok (.iload_n 1, 1) := by decide +kernel
theorem dX0_row_12 : decode cX0_row 12 = .ok (.iaload, 1) := by decide +kernel
theorem dX0_row_13 : decode cX0_row 13 = .ok (.goto 4, 3) := by decide +kernel
theorem dX0_row_16 : decode cX0_row 16 = .ok (.iconst (-1), 1) := by decide +kernel
theorem dX0_row_17 : decode cX0_row 17 = .ok (.ireturn, 1) := by decide +kernel
abbrev cX0_known : ByteArray := prog_1_method_16_code
def yX0_known : MethodName := ⟨RX0, "known", "(II)I"⟩
theorem dX0_known_0 : decode cX0_known 0 = .ok (.iload_n 1, 1) := by decide +kernel
theorem dX0_known_1 : decode cX0_known 1 = .ok (.invokestatic 56, 3) := by decide +kernel
theorem dX0_known_4 : decode cX0_known 4 = .ok (.ifCond .eq 23, 3) := by decide +kernel
theorem dX0_known_7 : decode cX0_known 7 = .ok (.iload_n 2, 1) := by decide +kernel
theorem dX0_known_8 : decode cX0_known 8 = .ok (.invokestatic 56, 3) := by decide +kernel
theorem dX0_known_11 : decode cX0_known 11 = .ok (.ifCond .eq 16, 3) := by decide +kernel
theorem dX0_known_14 : decode cX0_known 14 = .ok (.aload_n 0, 1) := by decide +kernel
theorem dX0_known_15 : decode cX0_known 15 = .ok (.getfield 38, 3) := by decide +kernel
theorem dX0_known_18 : decode cX0_known 18 = .ok (.iconst 3, 1) := by decide +kernel
theorem dX0_known_19 : decode cX0_known 19 = .ok (.iload_n 1, 1) := by decide +kernel
theorem dX0_known_20 : decode cX0_known 20 = .ok (.imul, 1) := by decide +kernel
theorem dX0_known_21 : decode cX0_known 21 = .ok (.iload_n 2, 1) := by decide +kernel
theorem dX0_known_22 : decode cX0_known 22 = .ok (.iadd, 1) := by decide +kernel
theorem dX0_known_23 : decode cX0_known 23 = .ok (.iaload, 1) := by decide +kernel
theorem dX0_known_24 : decode cX0_known 24 = .ok (.goto 4, 3) := by decide +kernel
theorem dX0_known_27 : decode cX0_known 27 = .ok (.iconst (-1), 1) := by decide +kernel
theorem dX0_known_28 : decode cX0_known 28 = .ok (.ireturn, 1) := by decide +kernel
abbrev cX0_alike : ByteArray := prog_1_method_17_code
def yX0_alike : MethodName := ⟨RX0, "alike", "(II)I"⟩
theorem dX0_alike_0 : decode cX0_alike 0 = .ok (.iload_n 1, 1) := by decide +kernel
theorem dX0_alike_1 : decode cX0_alike 1 = .ok (.invokestatic 56, 3) := by decide +kernel
theorem dX0_alike_4 : decode cX0_alike 4 = .ok (.ifCond .eq 10, 3) := by decide +kernel
theorem dX0_alike_7 : decode cX0_alike 7 = .ok (.iload_n 2, 1) := by decide +kernel
theorem dX0_alike_8 : decode cX0_alike 8 = .ok (.invokestatic 56, 3) := by decide +kernel
theorem dX0_alike_11 : decode cX0_alike 11 = .ok (.ifCond .ne 5, 3) := by decide +kernel
theorem dX0_alike_14 : decode cX0_alike 14 = .ok (.iconst (-1), 1) := by decide +kernel
theorem dX0_alike_15 : decode cX0_alike 15 = .ok (.ireturn, 1) := by decide +kernel
theorem dX0_alike_16 : decode cX0_alike 16 = .ok (.aload_n 0, 1) := by decide +kernel
theorem dX0_alike_17 : decode cX0_alike 17 = .ok (.getfield 53, 3) := by decide +kernel
theorem dX0_alike_20 : decode cX0_alike 20 = .ok (.iload_n 1, 1) := by decide +kernel
theorem dX0_alike_21 : decode cX0_alike 21 = .ok (.iaload, 1) := by decide +kernel
theorem dX0_alike_22 : decode cX0_alike 22 = .ok (.aload_n 0, 1) := by decide +kernel
theorem dX0_alike_23 : decode cX0_alike 23 = .ok (.getfield 53, 3) := by decide +kernel
theorem dX0_alike_26 : decode cX0_alike 26 = .ok (.iload_n 2, 1) := by decide +kernel
theorem dX0_alike_27 : decode cX0_alike 27 = .ok (.iaload, 1) := by decide +kernel
theorem dX0_alike_28 : decode cX0_alike 28 = .ok (.if_icmp .eq 5, 3) := by decide +kernel
theorem dX0_alike_31 : decode cX0_alike 31 = .ok (.iconst 0, 1) := by decide +kernel
theorem dX0_alike_32 : decode cX0_alike 32 = .ok (.ireturn, 1) := by decide +kernel
theorem dX0_alike_33 : decode cX0_alike 33 = .ok (.aload_n 0, 1) := by decide +kernel
theorem dX0_alike_34 : decode cX0_alike 34 = .ok (.iload_n 1, 1) := by decide +kernel
theorem dX0_alike_35 : decode cX0_alike 35 = .ok (.aload_n 0, 1) := by decide +kernel
theorem dX0_alike_36 : decode cX0_alike 36 = .ok (.getfield 44, 3) := by decide +kernel
theorem dX0_alike_39 : decode cX0_alike 39 = .ok (.bipush 49, 2) := by decide +kernel
theorem dX0_alike_41 : decode cX0_alike 41 = .ok (.iload_n 1, 1) := by decide +kernel
theorem dX0_alike_42 : decode cX0_alike 42 = .ok (.imul, 1) := by decide +kernel
theorem dX0_alike_43 : decode cX0_alike 43 = .ok (.iaload, 1) := by decide +kernel
theorem dX0_alike_44 : decode cX0_alike 44 = .ok (.invokevirtual 89, 3) := by decide +kernel
theorem dX0_alike_47 : decode cX0_alike 47 = .ok (.istore_n 3, 1) := by decide +kernel
theorem dX0_alike_48 : decode cX0_alike 48 = .ok (.aload_n 0, 1) := by decide +kernel
theorem dX0_alike_49 : decode cX0_alike 49 = .ok (.iload_n 2, 1) := by decide +kernel
theorem dX0_alike_50 : decode cX0_alike 50 = .ok (.aload_n 0, 1) := by decide +kernel
theorem dX0_alike_51 : decode cX0_alike 51 = .ok (.getfield 44, 3) := by decide +kernel
theorem dX0_alike_54 : decode cX0_alike 54 = .ok (.bipush 49, 2) := by decide +kernel
theorem dX0_alike_56 : decode cX0_alike 56 = .ok (.iload_n 2, 1) := by decide +kernel
theorem dX0_alike_57 : decode cX0_alike 57 = .ok (.imul, 1) := by decide +kernel
theorem dX0_alike_58 : decode cX0_alike 58 = .ok (.iaload, 1) := by decide +kernel
theorem dX0_alike_59 : decode cX0_alike 59 = .ok (.invokevirtual 89, 3) := by decide +kernel
theorem dX0_alike_62 : decode cX0_alike 62 = .ok (.istore 4, 2) := by decide +kernel
theorem dX0_alike_64 : decode cX0_alike 64 = .ok (.iconst 0, 1) := by decide +kernel
theorem dX0_alike_65 : decode cX0_alike 65 = .ok (.istore 5, 2) := by decide +kernel
theorem dX0_alike_67 : decode cX0_alike 67 = .ok (.iload 5, 2) := by decide +kernel
theorem dX0_alike_69 : decode cX0_alike 69 = .ok (.bipush 48, 2) := by decide +kernel
theorem dX0_alike_71 : decode cX0_alike 71 = .ok (.if_icmp .ge 76, 3) := by decide +kernel
theorem dX0_alike_74 : decode cX0_alike 74 = .ok (.iload_n 3, 1) := by decide +kernel
theorem dX0_alike_75 : decode cX0_alike 75 = .ok (.ifCond .lt 72, 3) := by decide +kernel
theorem dX0_alike_78 : decode cX0_alike 78 = .ok (.iload 4, 2) := by decide +kernel
theorem dX0_alike_80 : decode cX0_alike 80 = .ok (.ifCond .lt 67, 3) := by decide +kernel
theorem dX0_alike_83 : decode cX0_alike 83 = .ok (.aload_n 0, 1) := by decide +kernel
theorem dX0_alike_84 : decode cX0_alike 84 = .ok (.getfield 20, 3) := by decide +kernel
theorem dX0_alike_87 : decode cX0_alike 87 = .ok (.iload_n 3, 1) := by decide +kernel
theorem dX0_alike_88 : decode cX0_alike 88 = .ok (.iaload, 1) := by decide +kernel
theorem dX0_alike_89 : decode cX0_alike 89 = .ok (.aload_n 0, 1) := by decide +kernel
theorem dX0_alike_90 : decode cX0_alike 90 = .ok (.getfield 20, 3) := by decide +kernel
theorem dX0_alike_93 : decode cX0_alike 93 = .ok (.iload 4, 2) := by decide +kernel
theorem dX0_alike_95 : decode cX0_alike 95 = .ok (.iaload, 1) := by decide +kernel
theorem dX0_alike_96 : decode cX0_alike 96 = .ok (.if_icmp .eq 5, 3) := by decide +kernel
theorem dX0_alike_99 : decode cX0_alike 99 = .ok (.iconst 0, 1) := by decide +kernel
theorem dX0_alike_100 : decode cX0_alike 100 = .ok (.ireturn, 1) := by decide +kernel
theorem dX0_alike_101 : decode cX0_alike 101 = .ok (.aload_n 0, 1) := by decide +kernel
theorem dX0_alike_102 : decode cX0_alike 102 = .ok (.iload_n 1, 1) := by decide +kernel
theorem dX0_alike_103 : decode cX0_alike 103 = .ok (.aload_n 0, 1) := by decide +kernel
theorem dX0_alike_104 : decode cX0_alike 104 = .ok (.getfield 44, 3) := by decide +kernel
theorem dX0_alike_107 : decode cX0_alike 107 = .ok (.bipush 49, 2) := by decide +kernel
theorem dX0_alike_109 : decode cX0_alike 109 = .ok (.iload_n 1, 1) := by decide +kernel
theorem dX0_alike_110 : decode cX0_alike 110 = .ok (.imul, 1) := by decide +kernel
theorem dX0_alike_111 : decode cX0_alike 111 = .ok (.iconst 1, 1) := by decide +kernel
theorem dX0_alike_112 : decode cX0_alike 112 = .ok (.iadd, 1) := by decide +kernel
theorem dX0_alike_113 : decode cX0_alike 113 = .ok (.iload_n 3, 1) := by decide +kernel
theorem dX0_alike_114 : decode cX0_alike 114 = .ok (.iadd, 1) := by decide +kernel
theorem dX0_alike_115 : decode cX0_alike 115 = .ok (.iaload, 1) := by decide +kernel
theorem dX0_alike_116 : decode cX0_alike 116 = .ok (.invokevirtual 89, 3) := by decide +kernel
theorem dX0_alike_119 : decode cX0_alike 119 = .ok (.istore_n 3, 1) := by decide +kernel
theorem dX0_alike_120 : decode cX0_alike 120 = .ok (.aload_n 0, 1) := by decide +kernel
theorem dX0_alike_121 : decode cX0_alike 121 = .ok (.iload_n 2, 1) := by decide +kernel
theorem dX0_alike_122 : decode cX0_alike 122 = .ok (.aload_n 0, 1) := by decide +kernel
theorem dX0_alike_123 : decode cX0_alike 123 = .ok (.getfield 44, 3) := by decide +kernel
theorem dX0_alike_126 : decode cX0_alike 126 = .ok (.bipush 49, 2) := by decide +kernel
theorem dX0_alike_128 : decode cX0_alike 128 = .ok (.iload_n 2, 1) := by decide +kernel
theorem dX0_alike_129 : decode cX0_alike 129 = .ok (.imul, 1) := by decide +kernel
theorem dX0_alike_130 : decode cX0_alike 130 = .ok (.iconst 1, 1) := by decide +kernel
theorem dX0_alike_131 : decode cX0_alike 131 = .ok (.iadd, 1) := by decide +kernel
theorem dX0_alike_132 : decode cX0_alike 132 = .ok (.iload 4, 2) := by decide +kernel
theorem dX0_alike_134 : decode cX0_alike 134 = .ok (.iadd, 1) := by decide +kernel
theorem dX0_alike_135 : decode cX0_alike 135 = .ok (.iaload, 1) := by decide +kernel
theorem dX0_alike_136 : decode cX0_alike 136 = .ok (.invokevirtual 89, 3) := by decide +kernel
theorem dX0_alike_139 : decode cX0_alike 139 = .ok (.istore 4, 2) := by decide +kernel
theorem dX0_alike_141 : decode cX0_alike 141 = .ok (.iinc 5 1, 3) := by decide +kernel
theorem dX0_alike_144 : decode cX0_alike 144 = .ok (.goto (-77), 3) := by decide +kernel
theorem dX0_alike_147 : decode cX0_alike 147 = .ok (.iconst 1, 1) := by decide +kernel
theorem dX0_alike_148 : decode cX0_alike 148 = .ok (.ireturn, 1) := by decide +kernel
abbrev cX0_shown : ByteArray := prog_1_method_18_code
def yX0_shown : MethodName := ⟨RX0, "shown", "(II)I"⟩
theorem dX0_shown_0 : decode cX0_shown 0 = .ok (.iload_n 2, 1) := by decide +kernel
theorem dX0_shown_1 : decode cX0_shown 1 = .ok (.istore_n 3, 1) := by decide +kernel
theorem dX0_shown_2 : decode cX0_shown 2 = .ok (.iconst 0, 1) := by decide +kernel
theorem dX0_shown_3 : decode cX0_shown 3 = .ok (.istore 4, 2) := by decide +kernel
theorem dX0_shown_5 : decode cX0_shown 5 = .ok (.iload 4, 2) := by decide +kernel
theorem dX0_shown_7 : decode cX0_shown 7 = .ok (.bipush 48, 2) := by decide +kernel
theorem dX0_shown_9 : decode cX0_shown 9 = .ok (.if_icmp .ge 43, 3) := by decide +kernel
theorem dX0_shown_12 : decode cX0_shown 12 = .ok (.iload_n 3, 1) := by decide +kernel
theorem dX0_shown_13 : decode cX0_shown 13 = .ok (.ifCond .lt 39, 3) := by decide +kernel
theorem dX0_shown_16 : decode cX0_shown 16 = .ok (.aload_n 0, 1) := by decide +kernel
theorem dX0_shown_17 : decode cX0_shown 17 = .ok (.getfield 47, 3) := by decide +kernel
theorem dX0_shown_20 : decode cX0_shown 20 = .ok (.bipush 49, 2) := by decide +kernel
theorem dX0_shown_22 : decode cX0_shown 22 = .ok (.iload_n 1, 1) := by decide +kernel
theorem dX0_shown_23 : decode cX0_shown 23 = .ok (.imul, 1) := by decide +kernel
theorem dX0_shown_24 : decode cX0_shown 24 = .ok (.iconst 1, 1) := by decide +kernel
theorem dX0_shown_25 : decode cX0_shown 25 = .ok (.iadd, 1) := by decide +kernel
theorem dX0_shown_26 : decode cX0_shown 26 = .ok (.iload_n 3, 1) := by decide +kernel
theorem dX0_shown_27 : decode cX0_shown 27 = .ok (.iadd, 1) := by decide +kernel
theorem dX0_shown_28 : decode cX0_shown 28 = .ok (.baload, 1) := by decide +kernel
theorem dX0_shown_29 : decode cX0_shown 29 = .ok (.ifCond .eq 23, 3) := by decide +kernel
theorem dX0_shown_32 : decode cX0_shown 32 = .ok (.aload_n 0, 1) := by decide +kernel
theorem dX0_shown_33 : decode cX0_shown 33 = .ok (.getfield 44, 3) := by decide +kernel
theorem dX0_shown_36 : decode cX0_shown 36 = .ok (.bipush 49, 2) := by decide +kernel
theorem dX0_shown_38 : decode cX0_shown 38 = .ok (.iload_n 1, 1) := by decide +kernel
theorem dX0_shown_39 : decode cX0_shown 39 = .ok (.imul, 1) := by decide +kernel
theorem dX0_shown_40 : decode cX0_shown 40 = .ok (.iconst 1, 1) := by decide +kernel
theorem dX0_shown_41 : decode cX0_shown 41 = .ok (.iadd, 1) := by decide +kernel
theorem dX0_shown_42 : decode cX0_shown 42 = .ok (.iload_n 3, 1) := by decide +kernel
theorem dX0_shown_43 : decode cX0_shown 43 = .ok (.iadd, 1) := by decide +kernel
theorem dX0_shown_44 : decode cX0_shown 44 = .ok (.iaload, 1) := by decide +kernel
theorem dX0_shown_45 : decode cX0_shown 45 = .ok (.istore_n 3, 1) := by decide +kernel
theorem dX0_shown_46 : decode cX0_shown 46 = .ok (.iinc 4 1, 3) := by decide +kernel
theorem dX0_shown_49 : decode cX0_shown 49 = .ok (.goto (-44), 3) := by decide +kernel
theorem dX0_shown_52 : decode cX0_shown 52 = .ok (.iload_n 3, 1) := by decide +kernel
theorem dX0_shown_53 : decode cX0_shown 53 = .ok (.ireturn, 1) := by decide +kernel
theorem q17 : (Jvm.Cond.initialized "TextReplica") ∈ lw_all := lw_g (lw_at lw_m0 1 rfl) rfl
theorem q20 : (Jvm.Cond.instantiable "TextReplica" (16 : Nat)) ∈ lw_all := lw_g (lw_at lw_m0 4 rfl) rfl
theorem q22 : (Jvm.Cond.instanceMethod ({ cls := "TextReplica", name := "<init>", desc := "()V" } : Jvm.MethodName)) ∈ lw_all := lw_g (lw_at lw_m0 6 rfl) rfl
theorem q23 : (Jvm.Cond.code ({ cls := "TextReplica", name := "<init>", desc := "()V" } : Jvm.MethodName) prog_1_method_1_code (2 : Nat) (Option.none : Option Jvm.ClassFile.FieldType)) ∈ lw_all := lw_g (lw_at lw_m0 7 rfl) rfl
theorem q24 : (Jvm.Cond.methodLink "TextReplica" (1 : Nat) ({ cls := "java/lang/Object", name := "<init>", desc := "()V" } : Jvm.MethodName)) ∈ lw_all := lw_g (lw_at lw_m0 8 rfl) rfl
theorem q27 : (Jvm.Cond.fieldLink "TextReplica" (60 : Nat) "TextReplica" "made" "I") ∈ lw_all := lw_g (lw_at lw_m0 11 rfl) rfl
theorem q28 : (Jvm.Cond.fieldLink "TextReplica" (7 : Nat) "TextReplica" "isInsert" "[Z") ∈ lw_all := lw_g (lw_at lw_m0 12 rfl) rfl
theorem q29 : (Jvm.Cond.fieldLink "TextReplica" (13 : Nat) "TextReplica" "originOf" "[I") ∈ lw_all := lw_g (lw_at lw_m0 13 rfl) rfl
theorem q30 : (Jvm.Cond.fieldLink "TextReplica" (17 : Nat) "TextReplica" "numberOf" "[I") ∈ lw_all := lw_g (lw_at lw_m0 14 rfl) rfl
theorem q31 : (Jvm.Cond.fieldLink "TextReplica" (20 : Nat) "TextReplica" "letterOf" "[I") ∈ lw_all := lw_g (lw_at lw_m0 15 rfl) rfl
theorem q32 : (Jvm.Cond.fieldLink "TextReplica" (23 : Nat) "TextReplica" "anchorOf" "[I") ∈ lw_all := lw_g (lw_at lw_m0 16 rfl) rfl
theorem q33 : (Jvm.Cond.fieldLink "TextReplica" (26 : Nat) "TextReplica" "stampOf" "[I") ∈ lw_all := lw_g (lw_at lw_m0 17 rfl) rfl
theorem q34 : (Jvm.Cond.fieldLink "TextReplica" (29 : Nat) "TextReplica" "targetOf" "[I") ∈ lw_all := lw_g (lw_at lw_m0 18 rfl) rfl
theorem q35 : (Jvm.Cond.fieldLink "TextReplica" (32 : Nat) "TextReplica" "madeBy" "[I") ∈ lw_all := lw_g (lw_at lw_m0 19 rfl) rfl
theorem q36 : (Jvm.Cond.fieldLink "TextReplica" (35 : Nat) "TextReplica" "changeOf" "[I") ∈ lw_all := lw_g (lw_at lw_m0 20 rfl) rfl
theorem q37 : (Jvm.Cond.fieldLink "TextReplica" (38 : Nat) "TextReplica" "knows" "[I") ∈ lw_all := lw_g (lw_at lw_m0 21 rfl) rfl
theorem q38 : (Jvm.Cond.fieldLink "TextReplica" (41 : Nat) "TextReplica" "greatest" "[I") ∈ lw_all := lw_g (lw_at lw_m0 22 rfl) rfl
theorem q39 : (Jvm.Cond.fieldLink "TextReplica" (44 : Nat) "TextReplica" "follower" "[I") ∈ lw_all := lw_g (lw_at lw_m0 23 rfl) rfl
theorem q40 : (Jvm.Cond.fieldLink "TextReplica" (47 : Nat) "TextReplica" "taken" "[Z") ∈ lw_all := lw_g (lw_at lw_m0 24 rfl) rfl
theorem q41 : (Jvm.Cond.fieldLink "TextReplica" (50 : Nat) "TextReplica" "rowLength" "[I") ∈ lw_all := lw_g (lw_at lw_m0 25 rfl) rfl
theorem q42 : (Jvm.Cond.fieldLink "TextReplica" (53 : Nat) "TextReplica" "textLength" "[I") ∈ lw_all := lw_g (lw_at lw_m0 26 rfl) rfl
theorem q43 : (Jvm.Cond.lays "TextReplica" "TextReplica" "made" "I") ∈ lw_all := lw_g (lw_at lw_m0 27 rfl) rfl
theorem q44 : (Jvm.Cond.soleField "TextReplica" "made") ∈ lw_all := lw_g (lw_at lw_m0 28 rfl) rfl
theorem q45 : (Jvm.Cond.laysFinal "TextReplica" "TextReplica" "isInsert" "[Z") ∈ lw_all := lw_g (lw_at lw_m0 29 rfl) rfl
theorem q46 : (Jvm.Cond.soleField "TextReplica" "isInsert") ∈ lw_all := lw_g (lw_at lw_m0 30 rfl) rfl
theorem q47 : (Jvm.Cond.laysFinal "TextReplica" "TextReplica" "originOf" "[I") ∈ lw_all := lw_g (lw_at lw_m0 31 rfl) rfl
theorem q48 : (Jvm.Cond.soleField "TextReplica" "originOf") ∈ lw_all := lw_g (lw_at lw_m0 32 rfl) rfl
theorem q49 : (Jvm.Cond.laysFinal "TextReplica" "TextReplica" "numberOf" "[I") ∈ lw_all := lw_g (lw_at lw_m0 33 rfl) rfl
theorem q50 : (Jvm.Cond.soleField "TextReplica" "numberOf") ∈ lw_all := lw_g (lw_at lw_m0 34 rfl) rfl
theorem q51 : (Jvm.Cond.laysFinal "TextReplica" "TextReplica" "letterOf" "[I") ∈ lw_all := lw_g (lw_at lw_m0 35 rfl) rfl
theorem q52 : (Jvm.Cond.soleField "TextReplica" "letterOf") ∈ lw_all := lw_g (lw_at lw_m0 36 rfl) rfl
theorem q53 : (Jvm.Cond.laysFinal "TextReplica" "TextReplica" "anchorOf" "[I") ∈ lw_all := lw_g (lw_at lw_m0 37 rfl) rfl
theorem q54 : (Jvm.Cond.soleField "TextReplica" "anchorOf") ∈ lw_all := lw_g (lw_at lw_m0 38 rfl) rfl
theorem q55 : (Jvm.Cond.laysFinal "TextReplica" "TextReplica" "stampOf" "[I") ∈ lw_all := lw_g (lw_at lw_m0 39 rfl) rfl
theorem q56 : (Jvm.Cond.soleField "TextReplica" "stampOf") ∈ lw_all := lw_g (lw_at lw_m0 40 rfl) rfl
theorem q57 : (Jvm.Cond.laysFinal "TextReplica" "TextReplica" "targetOf" "[I") ∈ lw_all := lw_g (lw_at lw_m0 41 rfl) rfl
theorem q58 : (Jvm.Cond.soleField "TextReplica" "targetOf") ∈ lw_all := lw_g (lw_at lw_m0 42 rfl) rfl
theorem q59 : (Jvm.Cond.laysFinal "TextReplica" "TextReplica" "madeBy" "[I") ∈ lw_all := lw_g (lw_at lw_m0 43 rfl) rfl
theorem q60 : (Jvm.Cond.soleField "TextReplica" "madeBy") ∈ lw_all := lw_g (lw_at lw_m0 44 rfl) rfl
theorem q61 : (Jvm.Cond.laysFinal "TextReplica" "TextReplica" "changeOf" "[I") ∈ lw_all := lw_g (lw_at lw_m0 45 rfl) rfl
theorem q62 : (Jvm.Cond.soleField "TextReplica" "changeOf") ∈ lw_all := lw_g (lw_at lw_m0 46 rfl) rfl
theorem q63 : (Jvm.Cond.laysFinal "TextReplica" "TextReplica" "knows" "[I") ∈ lw_all := lw_g (lw_at lw_m0 47 rfl) rfl
theorem q64 : (Jvm.Cond.soleField "TextReplica" "knows") ∈ lw_all := lw_g (lw_at lw_m0 48 rfl) rfl
theorem q65 : (Jvm.Cond.laysFinal "TextReplica" "TextReplica" "greatest" "[I") ∈ lw_all := lw_g (lw_at lw_m0 49 rfl) rfl
theorem q66 : (Jvm.Cond.soleField "TextReplica" "greatest") ∈ lw_all := lw_g (lw_at lw_m0 50 rfl) rfl
theorem q67 : (Jvm.Cond.laysFinal "TextReplica" "TextReplica" "follower" "[I") ∈ lw_all := lw_g (lw_at lw_m0 51 rfl) rfl
theorem q68 : (Jvm.Cond.soleField "TextReplica" "follower") ∈ lw_all := lw_g (lw_at lw_m0 52 rfl) rfl
theorem q69 : (Jvm.Cond.laysFinal "TextReplica" "TextReplica" "taken" "[Z") ∈ lw_all := lw_g (lw_at lw_m0 53 rfl) rfl
theorem q70 : (Jvm.Cond.soleField "TextReplica" "taken") ∈ lw_all := lw_g (lw_at lw_m0 54 rfl) rfl
theorem q71 : (Jvm.Cond.laysFinal "TextReplica" "TextReplica" "rowLength" "[I") ∈ lw_all := lw_g (lw_at lw_m0 55 rfl) rfl
theorem q72 : (Jvm.Cond.soleField "TextReplica" "rowLength") ∈ lw_all := lw_g (lw_at lw_m0 56 rfl) rfl
theorem q73 : (Jvm.Cond.laysFinal "TextReplica" "TextReplica" "textLength" "[I") ∈ lw_all := lw_g (lw_at lw_m0 57 rfl) rfl
theorem q74 : (Jvm.Cond.soleField "TextReplica" "textLength") ∈ lw_all := lw_g (lw_at lw_m0 58 rfl) rfl
theorem q75 : (Jvm.Cond.superclass "TextReplica" "java/lang/Object") ∈ lw_all := lw_g (lw_at lw_m0 59 rfl) rfl
theorem q79 : (Jvm.Cond.instanceMethod ({ cls := "TextReplica", name := "insert", desc := "(III)I" } : Jvm.MethodName)) ∈ lw_all := lw_g (lw_at lw_m0 63 rfl) rfl
theorem q80 : (Jvm.Cond.selects "TextReplica" ({ cls := "TextReplica", name := "insert", desc := "(III)I" } : Jvm.MethodName) ({ cls := "TextReplica", name := "insert", desc := "(III)I" } : Jvm.MethodName)) ∈ lw_all := lw_g (lw_at lw_m0 64 rfl) rfl
theorem q81 : (Jvm.Cond.code ({ cls := "TextReplica", name := "insert", desc := "(III)I" } : Jvm.MethodName) prog_1_method_2_code (6 : Nat) (Option.some Jvm.ClassFile.FieldType.int)) ∈ lw_all := lw_g (lw_at lw_m0 65 rfl) rfl
theorem q82 : (Jvm.Cond.methodLink "TextReplica" (56 : Nat) ({ cls := "TextReplica", name := "isReplica", desc := "(I)Z" } : Jvm.MethodName)) ∈ lw_all := lw_g (lw_at lw_m0 66 rfl) rfl
theorem q83 : (Jvm.Cond.static ({ cls := "TextReplica", name := "isReplica", desc := "(I)Z" } : Jvm.MethodName)) ∈ lw_all := lw_g (lw_at lw_m0 67 rfl) rfl
theorem q84 : (Jvm.Cond.code ({ cls := "TextReplica", name := "isReplica", desc := "(I)Z" } : Jvm.MethodName) prog_1_method_19_code (1 : Nat) (Option.some Jvm.ClassFile.FieldType.boolean)) ∈ lw_all := lw_g (lw_at lw_m0 68 rfl) rfl
theorem q85 : (Jvm.Cond.methodLink "TextReplica" (64 : Nat) ({ cls := "TextReplica", name := "insertAt", desc := "(II)I" } : Jvm.MethodName)) ∈ lw_all := lw_g (lw_at lw_m0 69 rfl) rfl
theorem q86 : (Jvm.Cond.privateMethod ({ cls := "TextReplica", name := "insertAt", desc := "(II)I" } : Jvm.MethodName)) ∈ lw_tbl := lw_at lw_m0 70 rfl
theorem q87 : (Jvm.Cond.instanceMethod ({ cls := "TextReplica", name := "insertAt", desc := "(II)I" } : Jvm.MethodName)) ∈ lw_all := lw_g (lw_at lw_m0 71 rfl) rfl
theorem q88 : (Jvm.Cond.code ({ cls := "TextReplica", name := "insertAt", desc := "(II)I" } : Jvm.MethodName) prog_1_method_12_code (7 : Nat) (Option.some Jvm.ClassFile.FieldType.int)) ∈ lw_all := lw_g (lw_at lw_m0 72 rfl) rfl
theorem q89 : (Jvm.Cond.methodLink "TextReplica" (68 : Nat) ({ cls := "TextReplica", name := "newChange", desc := "(IZ)I" } : Jvm.MethodName)) ∈ lw_all := lw_g (lw_at lw_m0 73 rfl) rfl
theorem q90 : (Jvm.Cond.privateMethod ({ cls := "TextReplica", name := "newChange", desc := "(IZ)I" } : Jvm.MethodName)) ∈ lw_tbl := lw_at lw_m0 74 rfl
theorem q91 : (Jvm.Cond.instanceMethod ({ cls := "TextReplica", name := "newChange", desc := "(IZ)I" } : Jvm.MethodName)) ∈ lw_all := lw_g (lw_at lw_m0 75 rfl) rfl
theorem q92 : (Jvm.Cond.code ({ cls := "TextReplica", name := "newChange", desc := "(IZ)I" } : Jvm.MethodName) prog_1_method_4_code (4 : Nat) (Option.some Jvm.ClassFile.FieldType.int)) ∈ lw_all := lw_g (lw_at lw_m0 76 rfl) rfl
theorem q93 : (Jvm.Cond.methodLink "TextReplica" (72 : Nat) ({ cls := "TextReplica", name := "learn", desc := "(II)V" } : Jvm.MethodName)) ∈ lw_all := lw_g (lw_at lw_m0 77 rfl) rfl
theorem q94 : (Jvm.Cond.privateMethod ({ cls := "TextReplica", name := "learn", desc := "(II)V" } : Jvm.MethodName)) ∈ lw_tbl := lw_at lw_m0 78 rfl
theorem q95 : (Jvm.Cond.instanceMethod ({ cls := "TextReplica", name := "learn", desc := "(II)V" } : Jvm.MethodName)) ∈ lw_all := lw_g (lw_at lw_m0 79 rfl) rfl
theorem q96 : (Jvm.Cond.code ({ cls := "TextReplica", name := "learn", desc := "(II)V" } : Jvm.MethodName) prog_1_method_8_code (3 : Nat) (Option.none : Option Jvm.ClassFile.FieldType)) ∈ lw_all := lw_g (lw_at lw_m0 80 rfl) rfl
theorem q97 : (Jvm.Cond.methodLink "TextReplica" (80 : Nat) ({ cls := "TextReplica", name := "putInRow", desc := "(II)V" } : Jvm.MethodName)) ∈ lw_all := lw_g (lw_at lw_m0 81 rfl) rfl
theorem q98 : (Jvm.Cond.privateMethod ({ cls := "TextReplica", name := "putInRow", desc := "(II)V" } : Jvm.MethodName)) ∈ lw_tbl := lw_at lw_m0 82 rfl
theorem q99 : (Jvm.Cond.instanceMethod ({ cls := "TextReplica", name := "putInRow", desc := "(II)V" } : Jvm.MethodName)) ∈ lw_all := lw_g (lw_at lw_m0 83 rfl) rfl
theorem q100 : (Jvm.Cond.code ({ cls := "TextReplica", name := "putInRow", desc := "(II)V" } : Jvm.MethodName) prog_1_method_9_code (6 : Nat) (Option.none : Option Jvm.ClassFile.FieldType)) ∈ lw_all := lw_g (lw_at lw_m0 84 rfl) rfl
theorem q101 : (Jvm.Cond.methodLink "TextReplica" (86 : Nat) ({ cls := "TextReplica", name := "isGreater", desc := "(II)Z" } : Jvm.MethodName)) ∈ lw_all := lw_g (lw_at lw_m0 85 rfl) rfl
theorem q102 : (Jvm.Cond.privateMethod ({ cls := "TextReplica", name := "isGreater", desc := "(II)Z" } : Jvm.MethodName)) ∈ lw_tbl := lw_at lw_m0 86 rfl
theorem q103 : (Jvm.Cond.instanceMethod ({ cls := "TextReplica", name := "isGreater", desc := "(II)Z" } : Jvm.MethodName)) ∈ lw_all := lw_g (lw_at lw_m0 87 rfl) rfl
theorem q104 : (Jvm.Cond.code ({ cls := "TextReplica", name := "isGreater", desc := "(II)Z" } : Jvm.MethodName) prog_1_method_10_code (3 : Nat) (Option.some Jvm.ClassFile.FieldType.boolean)) ∈ lw_all := lw_g (lw_at lw_m0 88 rfl) rfl
theorem q105 : (Jvm.Cond.methodLink "TextReplica" (83 : Nat) ({ cls := "TextReplica", name := "takeAway", desc := "(II)V" } : Jvm.MethodName)) ∈ lw_all := lw_g (lw_at lw_m0 89 rfl) rfl
theorem q106 : (Jvm.Cond.privateMethod ({ cls := "TextReplica", name := "takeAway", desc := "(II)V" } : Jvm.MethodName)) ∈ lw_tbl := lw_at lw_m0 90 rfl
theorem q107 : (Jvm.Cond.instanceMethod ({ cls := "TextReplica", name := "takeAway", desc := "(II)V" } : Jvm.MethodName)) ∈ lw_all := lw_g (lw_at lw_m0 91 rfl) rfl
theorem q108 : (Jvm.Cond.code ({ cls := "TextReplica", name := "takeAway", desc := "(II)V" } : Jvm.MethodName) prog_1_method_11_code (4 : Nat) (Option.none : Option Jvm.ClassFile.FieldType)) ∈ lw_all := lw_g (lw_at lw_m0 92 rfl) rfl
theorem q110 : (Jvm.Cond.instanceMethod ({ cls := "TextReplica", name := "delete", desc := "(II)I" } : Jvm.MethodName)) ∈ lw_all := lw_g (lw_at lw_m0 94 rfl) rfl
theorem q111 : (Jvm.Cond.selects "TextReplica" ({ cls := "TextReplica", name := "delete", desc := "(II)I" } : Jvm.MethodName) ({ cls := "TextReplica", name := "delete", desc := "(II)I" } : Jvm.MethodName)) ∈ lw_all := lw_g (lw_at lw_m0 95 rfl) rfl
theorem q112 : (Jvm.Cond.code ({ cls := "TextReplica", name := "delete", desc := "(II)I" } : Jvm.MethodName) prog_1_method_3_code (5 : Nat) (Option.some Jvm.ClassFile.FieldType.int)) ∈ lw_all := lw_g (lw_at lw_m0 96 rfl) rfl
theorem q114 : (Jvm.Cond.instanceMethod ({ cls := "TextReplica", name := "deliver", desc := "(II)I" } : Jvm.MethodName)) ∈ lw_all := lw_g (lw_at lw_m0 98 rfl) rfl
theorem q115 : (Jvm.Cond.selects "TextReplica" ({ cls := "TextReplica", name := "deliver", desc := "(II)I" } : Jvm.MethodName) ({ cls := "TextReplica", name := "deliver", desc := "(II)I" } : Jvm.MethodName)) ∈ lw_all := lw_g (lw_at lw_m0 99 rfl) rfl
theorem q116 : (Jvm.Cond.code ({ cls := "TextReplica", name := "deliver", desc := "(II)I" } : Jvm.MethodName) prog_1_method_5_code (6 : Nat) (Option.some Jvm.ClassFile.FieldType.int)) ∈ lw_all := lw_g (lw_at lw_m0 100 rfl) rfl
theorem q117 : (Jvm.Cond.methodLink "TextReplica" (76 : Nat) ({ cls := "TextReplica", name := "isKnown", desc := "(II)Z" } : Jvm.MethodName)) ∈ lw_all := lw_g (lw_at lw_m0 101 rfl) rfl
theorem q118 : (Jvm.Cond.privateMethod ({ cls := "TextReplica", name := "isKnown", desc := "(II)Z" } : Jvm.MethodName)) ∈ lw_tbl := lw_at lw_m0 102 rfl
theorem q119 : (Jvm.Cond.instanceMethod ({ cls := "TextReplica", name := "isKnown", desc := "(II)Z" } : Jvm.MethodName)) ∈ lw_all := lw_g (lw_at lw_m0 103 rfl) rfl
theorem q120 : (Jvm.Cond.code ({ cls := "TextReplica", name := "isKnown", desc := "(II)Z" } : Jvm.MethodName) prog_1_method_7_code (3 : Nat) (Option.some Jvm.ClassFile.FieldType.boolean)) ∈ lw_all := lw_g (lw_at lw_m0 104 rfl) rfl
theorem q122 : (Jvm.Cond.instanceMethod ({ cls := "TextReplica", name := "sync", desc := "(II)I" } : Jvm.MethodName)) ∈ lw_all := lw_g (lw_at lw_m0 106 rfl) rfl
theorem q123 : (Jvm.Cond.selects "TextReplica" ({ cls := "TextReplica", name := "sync", desc := "(II)I" } : Jvm.MethodName) ({ cls := "TextReplica", name := "sync", desc := "(II)I" } : Jvm.MethodName)) ∈ lw_all := lw_g (lw_at lw_m0 107 rfl) rfl
theorem q124 : (Jvm.Cond.code ({ cls := "TextReplica", name := "sync", desc := "(II)I" } : Jvm.MethodName) prog_1_method_6_code (4 : Nat) (Option.some Jvm.ClassFile.FieldType.int)) ∈ lw_all := lw_g (lw_at lw_m0 108 rfl) rfl
theorem q126 : (Jvm.Cond.instanceMethod ({ cls := "TextReplica", name := "length", desc := "(I)I" } : Jvm.MethodName)) ∈ lw_all := lw_g (lw_at lw_m0 110 rfl) rfl
theorem q127 : (Jvm.Cond.selects "TextReplica" ({ cls := "TextReplica", name := "length", desc := "(I)I" } : Jvm.MethodName) ({ cls := "TextReplica", name := "length", desc := "(I)I" } : Jvm.MethodName)) ∈ lw_all := lw_g (lw_at lw_m0 111 rfl) rfl
theorem q128 : (Jvm.Cond.code ({ cls := "TextReplica", name := "length", desc := "(I)I" } : Jvm.MethodName) prog_1_method_13_code (2 : Nat) (Option.some Jvm.ClassFile.FieldType.int)) ∈ lw_all := lw_g (lw_at lw_m0 112 rfl) rfl
theorem q130 : (Jvm.Cond.instanceMethod ({ cls := "TextReplica", name := "letter", desc := "(II)I" } : Jvm.MethodName)) ∈ lw_all := lw_g (lw_at lw_m0 114 rfl) rfl
theorem q131 : (Jvm.Cond.selects "TextReplica" ({ cls := "TextReplica", name := "letter", desc := "(II)I" } : Jvm.MethodName) ({ cls := "TextReplica", name := "letter", desc := "(II)I" } : Jvm.MethodName)) ∈ lw_all := lw_g (lw_at lw_m0 115 rfl) rfl
theorem q132 : (Jvm.Cond.code ({ cls := "TextReplica", name := "letter", desc := "(II)I" } : Jvm.MethodName) prog_1_method_14_code (4 : Nat) (Option.some Jvm.ClassFile.FieldType.int)) ∈ lw_all := lw_g (lw_at lw_m0 116 rfl) rfl
theorem q134 : (Jvm.Cond.instanceMethod ({ cls := "TextReplica", name := "row", desc := "(I)I" } : Jvm.MethodName)) ∈ lw_all := lw_g (lw_at lw_m0 118 rfl) rfl
theorem q135 : (Jvm.Cond.selects "TextReplica" ({ cls := "TextReplica", name := "row", desc := "(I)I" } : Jvm.MethodName) ({ cls := "TextReplica", name := "row", desc := "(I)I" } : Jvm.MethodName)) ∈ lw_all := lw_g (lw_at lw_m0 119 rfl) rfl
theorem q136 : (Jvm.Cond.code ({ cls := "TextReplica", name := "row", desc := "(I)I" } : Jvm.MethodName) prog_1_method_15_code (2 : Nat) (Option.some Jvm.ClassFile.FieldType.int)) ∈ lw_all := lw_g (lw_at lw_m0 120 rfl) rfl
theorem q138 : (Jvm.Cond.instanceMethod ({ cls := "TextReplica", name := "known", desc := "(II)I" } : Jvm.MethodName)) ∈ lw_all := lw_g (lw_at lw_m0 122 rfl) rfl
theorem q139 : (Jvm.Cond.selects "TextReplica" ({ cls := "TextReplica", name := "known", desc := "(II)I" } : Jvm.MethodName) ({ cls := "TextReplica", name := "known", desc := "(II)I" } : Jvm.MethodName)) ∈ lw_all := lw_g (lw_at lw_m0 123 rfl) rfl
theorem q140 : (Jvm.Cond.code ({ cls := "TextReplica", name := "known", desc := "(II)I" } : Jvm.MethodName) prog_1_method_16_code (3 : Nat) (Option.some Jvm.ClassFile.FieldType.int)) ∈ lw_all := lw_g (lw_at lw_m0 124 rfl) rfl
theorem q142 : (Jvm.Cond.instanceMethod ({ cls := "TextReplica", name := "alike", desc := "(II)I" } : Jvm.MethodName)) ∈ lw_all := lw_g (lw_at lw_m0 126 rfl) rfl
theorem q143 : (Jvm.Cond.selects "TextReplica" ({ cls := "TextReplica", name := "alike", desc := "(II)I" } : Jvm.MethodName) ({ cls := "TextReplica", name := "alike", desc := "(II)I" } : Jvm.MethodName)) ∈ lw_all := lw_g (lw_at lw_m0 127 rfl) rfl
theorem q144 : (Jvm.Cond.code ({ cls := "TextReplica", name := "alike", desc := "(II)I" } : Jvm.MethodName) prog_1_method_17_code (6 : Nat) (Option.some Jvm.ClassFile.FieldType.int)) ∈ lw_all := lw_g (lw_at lw_m0 128 rfl) rfl
theorem q145 : (Jvm.Cond.methodLink "TextReplica" (89 : Nat) ({ cls := "TextReplica", name := "shown", desc := "(II)I" } : Jvm.MethodName)) ∈ lw_all := lw_g (lw_at lw_m0 129 rfl) rfl
theorem q146 : (Jvm.Cond.privateMethod ({ cls := "TextReplica", name := "shown", desc := "(II)I" } : Jvm.MethodName)) ∈ lw_tbl := lw_at lw_m0 130 rfl
theorem q147 : (Jvm.Cond.instanceMethod ({ cls := "TextReplica", name := "shown", desc := "(II)I" } : Jvm.MethodName)) ∈ lw_all := lw_g (lw_at lw_m0 131 rfl) rfl
theorem q148 : (Jvm.Cond.code ({ cls := "TextReplica", name := "shown", desc := "(II)I" } : Jvm.MethodName) prog_1_method_18_code (5 : Nat) (Option.some Jvm.ClassFile.FieldType.int)) ∈ lw_all := lw_g (lw_at lw_m0 132 rfl) rfl
theorem in_X0 : ∀ w ∈ wsX00, w ∈ lw_all := lw_in wsX00 [43, 45, 47, 49, 51, 53, 55, 57, 59, 61, 63, 65, 67, 69, 71, 73] (by decide +kernel) (by decide +kernel)
end
section
/-! TextReplicaModel -/
set_option maxRecDepth 100000
def RX1 : String := "TextReplicaModel"
def TX1 : u_T := fun k => match k with
  | 0 => ("TextReplicaModel", "made", "I", false)
  | 1 => ("TextReplicaModel", "origin", "[I", true)
  | 2 => ("TextReplicaModel", "isInsert", "[Z", true)
  | 3 => ("TextReplicaModel", "letters", "[I", true)
  | 4 => ("TextReplicaModel", "target", "[I", true)
  | 5 => ("TextReplicaModel", "stamp", "[I", true)
  | 6 => ("TextReplicaModel", "knows", "[Z", true)
  | 7 => ("TextReplicaModel", "shown", "I", false)
  | _ => ("TextReplicaModel", "text", "[I", true)
def tyX1 : Nat → FieldType := fun k => match k with
  | 0 => .int
  | 1 => .array .int
  | 2 => .array .boolean
  | 3 => .array .int
  | 4 => .array .int
  | 5 => .array .int
  | 6 => .array .boolean
  | 7 => .int
  | _ => .array .int
abbrev wsX10 : List Cond := u_ws RX1 TX1 9
theorem nmX1 : ∀ a, a < 9 → ∀ b, b < 9 → a ≠ b → (TX1 a).2.1 ≠ (TX1 b).2.1 := by decide +kernel
theorem tyX1_ok : ∀ k, k < 9 → parseFieldDescriptor (TX1 k).2.2.1 = some (tyX1 k) := by decide +kernel
abbrev cX1_init : ByteArray := prog_3_method_1_code
def yX1_init : MethodName := ⟨RX1, "<init>", "()V"⟩
theorem dX1_init_0 : decode cX1_init 0 = .ok (.aload_n 0, 1) := by decide +kernel
theorem dX1_init_1 : decode cX1_init 1 = .ok (.invokespecial 1, 3) := by decide +kernel
theorem dX1_init_4 : decode cX1_init 4 = .ok (.aload_n 0, 1) := by decide +kernel
theorem dX1_init_5 : decode cX1_init 5 = .ok (.bipush 48, 2) := by decide +kernel
theorem dX1_init_7 : decode cX1_init 7 = .ok (.newarray .int, 2) := by decide +kernel
theorem dX1_init_9 : decode cX1_init 9 = .ok (.putfield 7, 3) := by decide +kernel
theorem dX1_init_12 : decode cX1_init 12 = .ok (.aload_n 0, 1) := by decide +kernel
theorem dX1_init_13 : decode cX1_init 13 = .ok (.bipush 48, 2) := by decide +kernel
theorem dX1_init_15 : decode cX1_init 15 = .ok (.newarray .boolean, 2) := by decide +kernel
theorem dX1_init_17 : decode cX1_init 17 = .ok (.putfield 13, 3) := by decide +kernel
theorem dX1_init_20 : decode cX1_init 20 = .ok (.aload_n 0, 1) := by decide +kernel
theorem dX1_init_21 : decode cX1_init 21 = .ok (.bipush 48, 2) := by decide +kernel
theorem dX1_init_23 : decode cX1_init 23 = .ok (.newarray .int, 2) := by decide +kernel
theorem dX1_init_25 : decode cX1_init 25 = .ok (.putfield 17, 3) := by decide +kernel
theorem dX1_init_28 : decode cX1_init 28 = .ok (.aload_n 0, 1) := by decide +kernel
theorem dX1_init_29 : decode cX1_init 29 = .ok (.bipush 48, 2) := by decide +kernel
theorem dX1_init_31 : decode cX1_init 31 = .ok (.newarray .int, 2) := by decide +kernel
theorem dX1_init_33 : decode cX1_init 33 = .ok (.putfield 20, 3) := by decide +kernel
theorem dX1_init_36 : decode cX1_init 36 = .ok (.aload_n 0, 1) := by decide +kernel
theorem dX1_init_37 : decode cX1_init 37 = .ok (.bipush 48, 2) := by decide +kernel
theorem dX1_init_39 : decode cX1_init 39 = .ok (.newarray .int, 2) := by decide +kernel
theorem dX1_init_41 : decode cX1_init 41 = .ok (.putfield 23, 3) := by decide +kernel
theorem dX1_init_44 : decode cX1_init 44 = .ok (.aload_n 0, 1) := by decide +kernel
theorem dX1_init_45 : decode cX1_init 45 = .ok (.sipush 144, 3) := by decide +kernel
theorem dX1_init_48 : decode cX1_init 48 = .ok (.newarray .boolean, 2) := by decide +kernel
theorem dX1_init_50 : decode cX1_init 50 = .ok (.putfield 26, 3) := by decide +kernel
theorem dX1_init_53 : decode cX1_init 53 = .ok (.aload_n 0, 1) := by decide +kernel
theorem dX1_init_54 : decode cX1_init 54 = .ok (.bipush 48, 2) := by decide +kernel
theorem dX1_init_56 : decode cX1_init 56 = .ok (.newarray .int, 2) := by decide +kernel
theorem dX1_init_58 : decode cX1_init 58 = .ok (.putfield 29, 3) := by decide +kernel
theorem dX1_init_61 : decode cX1_init 61 = .ok (.return_, 1) := by decide +kernel
abbrev cX1_insert : ByteArray := prog_3_method_11_code
def yX1_insert : MethodName := ⟨RX1, "insert", "(III)I"⟩
theorem dX1_insert_0 : decode cX1_insert 0 = .ok (.iload_n 1, 1) := by decide +kernel
theorem dX1_insert_1 : decode cX1_insert 1 = .ok (.invokestatic 64, 3) := by decide +kernel
theorem dX1_insert_4 : decode cX1_insert 4 = .ok (.ifCond .eq 5, 3) := by decide +kernel
theorem dX1_insert_7 : decode cX1_insert 7 = .ok (.iconst (-1), 1) := by decide +kernel
theorem dX1_insert_8 : decode cX1_insert 8 = .ok (.ireturn, 1) := by decide +kernel
theorem dX1_insert_9 : decode cX1_insert 9 = .ok (.aload_n 0, 1) := by decide +kernel
theorem dX1_insert_10 : decode cX1_insert 10 = .ok (.iload_n 1, 1) := by decide +kernel
theorem dX1_insert_11 : decode cX1_insert 11 = .ok (.invokevirtual 68, 3) := by decide +kernel
theorem dX1_insert_14 : decode cX1_insert 14 = .ok (.iload_n 2, 1) := by decide +kernel
theorem dX1_insert_15 : decode cX1_insert 15 = .ok (.ifCond .lt 20, 3) := by decide +kernel
theorem dX1_insert_18 : decode cX1_insert 18 = .ok (.iload_n 2, 1) := by decide +kernel
theorem dX1_insert_19 : decode cX1_insert 19 = .ok (.aload_n 0, 1) := by decide +kernel
theorem dX1_insert_20 : decode cX1_insert 20 = .ok (.getfield 47, 3) := by decide +kernel
theorem dX1_insert_23 : decode cX1_insert 23 = .ok (.if_icmp .gt 12, 3) := by decide +kernel
theorem dX1_insert_26 : decode cX1_insert 26 = .ok (.aload_n 0, 1) := by decide +kernel
theorem dX1_insert_27 : decode cX1_insert 27 = .ok (.getfield 32, 3) := by decide +kernel
theorem dX1_insert_30 : decode cX1_insert 30 = .ok (.bipush 48, 2) := by decide +kernel
theorem dX1_insert_32 : decode cX1_insert 32 = .ok (.if_icmp .ne 5, 3) := by decide +kernel
theorem dX1_insert_35 : decode cX1_insert 35 = .ok (.iconst (-1), 1) := by decide +kernel
theorem dX1_insert_36 : decode cX1_insert 36 = .ok (.ireturn, 1) := by decide +kernel
theorem dX1_insert_37 : decode cX1_insert 37 = .ok (.iload_n 2, 1) := by decide +kernel
theorem dX1_insert_38 : decode cX1_insert 38 = .ok (.ifCond .ne 7, 3) := by decide +kernel
theorem dX1_insert_41 : decode cX1_insert 41 = .ok (.iconst (-1), 1) := by decide +kernel
theorem dX1_insert_42 : decode cX1_insert 42 = .ok (.goto 11, 3) := by decide +kernel
theorem dX1_insert_45 : decode cX1_insert 45 = .ok (.aload_n 0, 1) := by decide +kernel
theorem dX1_insert_46 : decode cX1_insert 46 = .ok (.getfield 29, 3) := by decide +kernel
theorem dX1_insert_49 : decode cX1_insert 49 = .ok (.iload_n 2, 1) := by decide +kernel
theorem dX1_insert_50 : decode cX1_insert 50 = .ok (.iconst 1, 1) := by decide +kernel
theorem dX1_insert_51 : decode cX1_insert 51 = .ok (.isub, 1) := by decide +kernel
theorem dX1_insert_52 : decode cX1_insert 52 = .ok (.iaload, 1) := by decide +kernel
theorem dX1_insert_53 : decode cX1_insert 53 = .ok (.istore 4, 2) := by decide +kernel
theorem dX1_insert_55 : decode cX1_insert 55 = .ok (.aload_n 0, 1) := by decide +kernel
theorem dX1_insert_56 : decode cX1_insert 56 = .ok (.iload_n 1, 1) := by decide +kernel
theorem dX1_insert_57 : decode cX1_insert 57 = .ok (.iconst 1, 1) := by decide +kernel
theorem dX1_insert_58 : decode cX1_insert 58 = .ok (.iload 4, 2) := by decide +kernel
theorem dX1_insert_60 : decode cX1_insert 60 = .ok (.iload_n 3, 1) := by decide +kernel
theorem dX1_insert_61 : decode cX1_insert 61 = .ok (.invokevirtual 72, 3) := by decide +kernel
theorem dX1_insert_64 : decode cX1_insert 64 = .ok (.ireturn, 1) := by decide +kernel
abbrev cX1_bad : ByteArray := prog_3_method_2_code
def yX1_bad : MethodName := ⟨RX1, "bad", "(I)Z"⟩
theorem dX1_bad_0 : decode cX1_bad 0 = .ok (.iload_n 0, 1) := by decide +kernel
theorem dX1_bad_1 : decode cX1_bad 1 = .ok (.ifCond .lt 8, 3) := by decide +kernel
theorem dX1_bad_4 : decode cX1_bad 4 = .ok (.iload_n 0, 1) := by decide +kernel
theorem dX1_bad_5 : decode cX1_bad 5 = .ok (.iconst 2, 1) := by decide +kernel
theorem dX1_bad_6 : decode cX1_bad 6 = .ok (.if_icmp .le 7, 3) := by decide +kernel
theorem dX1_bad_9 : decode cX1_bad 9 = .ok (.iconst 1, 1) := by decide +kernel
theorem dX1_bad_10 : decode cX1_bad 10 = .ok (.goto 4, 3) := by decide +kernel
theorem dX1_bad_13 : decode cX1_bad 13 = .ok (.iconst 0, 1) := by decide +kernel
theorem dX1_bad_14 : decode cX1_bad 14 = .ok (.ireturn, 1) := by decide +kernel
abbrev cX1_lay : ByteArray := prog_3_method_8_code
def yX1_lay : MethodName := ⟨RX1, "lay", "(I)V"⟩
theorem dX1_lay_0 : decode cX1_lay 0 = .ok (.aload_n 0, 1) := by decide +kernel
theorem dX1_lay_1 : decode cX1_lay 1 = .ok (.iconst 0, 1) := by decide +kernel
theorem dX1_lay_2 : decode cX1_lay 2 = .ok (.putfield 47, 3) := by decide +kernel
theorem dX1_lay_5 : decode cX1_lay 5 = .ok (.aload_n 0, 1) := by decide +kernel
theorem dX1_lay_6 : decode cX1_lay 6 = .ok (.iload_n 1, 1) := by decide +kernel
theorem dX1_lay_7 : decode cX1_lay 7 = .ok (.iconst (-1), 1) := by decide +kernel
theorem dX1_lay_8 : decode cX1_lay 8 = .ok (.iconst (-1), 1) := by decide +kernel
theorem dX1_lay_9 : decode cX1_lay 9 = .ok (.invokevirtual 43, 3) := by decide +kernel
theorem dX1_lay_12 : decode cX1_lay 12 = .ok (.istore_n 2, 1) := by decide +kernel
theorem dX1_lay_13 : decode cX1_lay 13 = .ok (.iconst 0, 1) := by decide +kernel
theorem dX1_lay_14 : decode cX1_lay 14 = .ok (.istore_n 3, 1) := by decide +kernel
theorem dX1_lay_15 : decode cX1_lay 15 = .ok (.iload_n 3, 1) := by decide +kernel
theorem dX1_lay_16 : decode cX1_lay 16 = .ok (.bipush 48, 2) := by decide +kernel
theorem dX1_lay_18 : decode cX1_lay 18 = .ok (.if_icmp .ge 49, 3) := by decide +kernel
theorem dX1_lay_21 : decode cX1_lay 21 = .ok (.iload_n 2, 1) := by decide +kernel
theorem dX1_lay_22 : decode cX1_lay 22 = .ok (.ifCond .lt 45, 3) := by decide +kernel
theorem dX1_lay_25 : decode cX1_lay 25 = .ok (.aload_n 0, 1) := by decide +kernel
theorem dX1_lay_26 : decode cX1_lay 26 = .ok (.iload_n 1, 1) := by decide +kernel
theorem dX1_lay_27 : decode cX1_lay 27 = .ok (.iload_n 2, 1) := by decide +kernel
theorem dX1_lay_28 : decode cX1_lay 28 = .ok (.invokevirtual 50, 3) := by decide +kernel
theorem dX1_lay_31 : decode cX1_lay 31 = .ok (.ifCond .ne 23, 3) := by decide +kernel
theorem dX1_lay_34 : decode cX1_lay 34 = .ok (.aload_n 0, 1) := by decide +kernel
theorem dX1_lay_35 : decode cX1_lay 35 = .ok (.getfield 29, 3) := by decide +kernel
theorem dX1_lay_38 : decode cX1_lay 38 = .ok (.aload_n 0, 1) := by decide +kernel
theorem dX1_lay_39 : decode cX1_lay 39 = .ok (.getfield 47, 3) := by decide +kernel
theorem dX1_lay_42 : decode cX1_lay 42 = .ok (.iload_n 2, 1) := by decide +kernel
theorem dX1_lay_43 : decode cX1_lay 43 = .ok (.iastore, 1) := by decide +kernel
theorem dX1_lay_44 : decode cX1_lay 44 = .ok (.aload_n 0, 1) := by decide +kernel
theorem dX1_lay_45 : decode cX1_lay 45 = .ok (.dup, 1) := by decide +kernel
theorem dX1_lay_46 : decode cX1_lay 46 = .ok (.getfield 47, 3) := by decide +kernel
theorem dX1_lay_49 : decode cX1_lay 49 = .ok (.iconst 1, 1) := by decide +kernel
theorem dX1_lay_50 : decode cX1_lay 50 = .ok (.iadd, 1) := by decide +kernel
theorem dX1_lay_51 : decode cX1_lay 51 = .ok (.putfield 47, 3) := by decide +kernel
theorem dX1_lay_54 : decode cX1_lay 54 = .ok (.aload_n 0, 1) := by decide +kernel
theorem dX1_lay_55 : decode cX1_lay 55 = .ok (.iload_n 1, 1) := by decide +kernel
theorem dX1_lay_56 : decode cX1_lay 56 = .ok (.iload_n 2, 1) := by decide +kernel
theorem dX1_lay_57 : decode cX1_lay 57 = .ok (.invokevirtual 53, 3) := by decide +kernel
theorem dX1_lay_60 : decode cX1_lay 60 = .ok (.istore_n 2, 1) := by decide +kernel
theorem dX1_lay_61 : decode cX1_lay 61 = .ok (.iinc 3 1, 3) := by decide +kernel
theorem dX1_lay_64 : decode cX1_lay 64 = .ok (.goto (-49), 3) := by decide +kernel
theorem dX1_lay_67 : decode cX1_lay 67 = .ok (.return_, 1) := by decide +kernel
abbrev cX1_following : ByteArray := prog_3_method_5_code
def yX1_following : MethodName := ⟨RX1, "following", "(III)I"⟩
theorem dX1_following_0 : decode cX1_following 0 = .ok (.iconst (-1), 1) := by decide +kernel
theorem dX1_following_1 : decode cX1_following 1 = .ok (.istore 4, 2) := by decide +kernel
theorem dX1_following_3 : decode cX1_following 3 = .ok (.iconst 0, 1) := by decide +kernel
theorem dX1_following_4 : decode cX1_following 4 = .ok (.istore 5, 2) := by decide +kernel
theorem dX1_following_6 : decode cX1_following 6 = .ok (.iload 5, 2) := by decide +kernel
theorem dX1_following_8 : decode cX1_following 8 = .ok (.aload_n 0, 1) := by decide +kernel
theorem dX1_following_9 : decode cX1_following 9 = .ok (.getfield 32, 3) := by decide +kernel
theorem dX1_following_12 : decode cX1_following 12 = .ok (.if_icmp .ge 76, 3) := by decide +kernel
theorem dX1_following_15 : decode cX1_following 15 = .ok (.aload_n 0, 1) := by decide +kernel
theorem dX1_following_16 : decode cX1_following 16 = .ok (.iload_n 1, 1) := by decide +kernel
theorem dX1_following_17 : decode cX1_following 17 = .ok (.iload 5, 2) := by decide +kernel
theorem dX1_following_19 : decode cX1_following 19 = .ok (.invokevirtual 36, 3) := by decide +kernel
theorem dX1_following_22 : decode cX1_following 22 = .ok (.ifCond .eq 32, 3) := by decide +kernel
theorem dX1_following_25 : decode cX1_following 25 = .ok (.aload_n 0, 1) := by decide +kernel
theorem dX1_following_26 : decode cX1_following 26 = .ok (.getfield 20, 3) := by decide +kernel
theorem dX1_following_29 : decode cX1_following 29 = .ok (.iload 5, 2) := by decide +kernel
theorem dX1_following_31 : decode cX1_following 31 = .ok (.iaload, 1) := by decide +kernel
theorem dX1_following_32 : decode cX1_following 32 = .ok (.iload_n 2, 1) := by decide +kernel
theorem dX1_following_33 : decode cX1_following 33 = .ok (.if_icmp .ne 21, 3) := by decide +kernel
theorem dX1_following_36 : decode cX1_following 36 = .ok (.iload_n 3, 1) := by decide +kernel
theorem dX1_following_37 : decode cX1_following 37 = .ok (.ifCond .lt 13, 3) := by decide +kernel
theorem dX1_following_40 : decode cX1_following 40 = .ok (.aload_n 0, 1) := by decide +kernel
theorem dX1_following_41 : decode cX1_following 41 = .ok (.iload_n 3, 1) := by decide +kernel
theorem dX1_following_42 : decode cX1_following 42 = .ok (.iload 5, 2) := by decide +kernel
theorem dX1_following_44 : decode cX1_following 44 = .ok (.invokevirtual 40, 3) := by decide +kernel
theorem dX1_following_47 : decode cX1_following 47 = .ok (.ifCond .eq 7, 3) := by decide +kernel
theorem dX1_following_50 : decode cX1_following 50 = .ok (.iconst 1, 1) := by decide +kernel
theorem dX1_following_51 : decode cX1_following 51 = .ok (.goto 4, 3) := by decide +kernel
theorem dX1_following_54 : decode cX1_following 54 = .ok (.iconst 0, 1) := by decide +kernel
theorem dX1_following_55 : decode cX1_following 55 = .ok (.istore 6, 2) := by decide +kernel
theorem dX1_following_57 : decode cX1_following 57 = .ok (.iload 6, 2) := by decide +kernel
theorem dX1_following_59 : decode cX1_following 59 = .ok (.ifCond .eq 23, 3) := by decide +kernel
theorem dX1_following_62 : decode cX1_following 62 = .ok (.iload 4, 2) := by decide +kernel
theorem dX1_following_64 : decode cX1_following 64 = .ok (.ifCond .lt 14, 3) := by decide +kernel
theorem dX1_following_67 : decode cX1_following 67 = .ok (.aload_n 0, 1) := by decide +kernel
theorem dX1_following_68 : decode cX1_following 68 = .ok (.iload 5, 2) := by decide +kernel
theorem dX1_following_70 : decode cX1_following 70 = .ok (.iload 4, 2) := by decide +kernel
theorem dX1_following_72 : decode cX1_following 72 = .ok (.invokevirtual 40, 3) := by decide +kernel
theorem dX1_following_75 : decode cX1_following 75 = .ok (.ifCond .eq 7, 3) := by decide +kernel
theorem dX1_following_78 : decode cX1_following 78 = .ok (.iload 5, 2) := by decide +kernel
theorem dX1_following_80 : decode cX1_following 80 = .ok (.istore 4, 2) := by decide +kernel
theorem dX1_following_82 : decode cX1_following 82 = .ok (.iinc 5 1, 3) := by decide +kernel
theorem dX1_following_85 : decode cX1_following 85 = .ok (.goto (-79), 3) := by decide +kernel
theorem dX1_following_88 : decode cX1_following 88 = .ok (.iload 4, 2) := by decide +kernel
theorem dX1_following_90 : decode cX1_following 90 = .ok (.ireturn, 1) := by decide +kernel
abbrev cX1_inRow : ByteArray := prog_3_method_3_code
def yX1_inRow : MethodName := ⟨RX1, "inRow", "(II)Z"⟩
theorem dX1_inRow_0 : decode cX1_inRow 0 = .ok (.aload_n 0, 1) := by decide +kernel
theorem dX1_inRow_1 : decode cX1_inRow 1 = .ok (.getfield 26, 3) := by decide +kernel
theorem dX1_inRow_4 : decode cX1_inRow 4 = .ok (.bipush 48, 2) := by decide +kernel
theorem dX1_inRow_6 : decode cX1_inRow 6 = .ok (.iload_n 1, 1) := by decide +kernel
theorem dX1_inRow_7 : decode cX1_inRow 7 = .ok (.imul, 1) := by decide +kernel
theorem dX1_inRow_8 : decode cX1_inRow 8 = .ok (.iload_n 2, 1) := by decide +kernel
theorem dX1_inRow_9 : decode cX1_inRow 9 = .ok (.iadd, 1) := by decide +kernel
theorem dX1_inRow_10 : decode cX1_inRow 10 = .ok (.baload, 1) := by decide +kernel
theorem dX1_inRow_11 : decode cX1_inRow 11 = .ok (.ifCond .eq 16, 3) := by decide +kernel
theorem dX1_inRow_14 : decode cX1_inRow 14 = .ok (.aload_n 0, 1) := by decide +kernel
theorem dX1_inRow_15 : decode cX1_inRow 15 = .ok (.getfield 13, 3) := by decide +kernel
theorem dX1_inRow_18 : decode cX1_inRow 18 = .ok (.iload_n 2, 1) := by decide +kernel
theorem dX1_inRow_19 : decode cX1_inRow 19 = .ok (.baload, 1) := by decide +kernel
theorem dX1_inRow_20 : decode cX1_inRow 20 = .ok (.ifCond .eq 7, 3) := by decide +kernel
theorem dX1_inRow_23 : decode cX1_inRow 23 = .ok (.iconst 1, 1) := by decide +kernel
theorem dX1_inRow_24 : decode cX1_inRow 24 = .ok (.goto 4, 3) := by decide +kernel
theorem dX1_inRow_27 : decode cX1_inRow 27 = .ok (.iconst 0, 1) := by decide +kernel
theorem dX1_inRow_28 : decode cX1_inRow 28 = .ok (.ireturn, 1) := by decide +kernel
abbrev cX1_greater : ByteArray := prog_3_method_4_code
def yX1_greater : MethodName := ⟨RX1, "greater", "(II)Z"⟩
theorem dX1_greater_0 : decode cX1_greater 0 = .ok (.aload_n 0, 1) := by decide +kernel
theorem dX1_greater_1 : decode cX1_greater 1 = .ok (.getfield 23, 3) := by decide +kernel
theorem dX1_greater_4 : decode cX1_greater 4 = .ok (.iload_n 1, 1) := by decide +kernel
theorem dX1_greater_5 : decode cX1_greater 5 = .ok (.iaload, 1) := by decide +kernel
theorem dX1_greater_6 : decode cX1_greater 6 = .ok (.aload_n 0, 1) := by decide +kernel
theorem dX1_greater_7 : decode cX1_greater 7 = .ok (.getfield 23, 3) := by decide +kernel
theorem dX1_greater_10 : decode cX1_greater 10 = .ok (.iload_n 2, 1) := by decide +kernel
theorem dX1_greater_11 : decode cX1_greater 11 = .ok (.iaload, 1) := by decide +kernel
theorem dX1_greater_12 : decode cX1_greater 12 = .ok (.if_icmp .gt 33, 3) := by decide +kernel
theorem dX1_greater_15 : decode cX1_greater 15 = .ok (.aload_n 0, 1) := by decide +kernel
theorem dX1_greater_16 : decode cX1_greater 16 = .ok (.getfield 23, 3) := by decide +kernel
theorem dX1_greater_19 : decode cX1_greater 19 = .ok (.iload_n 1, 1) := by decide +kernel
theorem dX1_greater_20 : decode cX1_greater 20 = .ok (.iaload, 1) := by decide +kernel
theorem dX1_greater_21 : decode cX1_greater 21 = .ok (.aload_n 0, 1) := by decide +kernel
theorem dX1_greater_22 : decode cX1_greater 22 = .ok (.getfield 23, 3) := by decide +kernel
theorem dX1_greater_25 : decode cX1_greater 25 = .ok (.iload_n 2, 1) := by decide +kernel
theorem dX1_greater_26 : decode cX1_greater 26 = .ok (.iaload, 1) := by decide +kernel
theorem dX1_greater_27 : decode cX1_greater 27 = .ok (.if_icmp .ne 22, 3) := by decide +kernel
theorem dX1_greater_30 : decode cX1_greater 30 = .ok (.aload_n 0, 1) := by decide +kernel
theorem dX1_greater_31 : decode cX1_greater 31 = .ok (.getfield 7, 3) := by decide +kernel
theorem dX1_greater_34 : decode cX1_greater 34 = .ok (.iload_n 1, 1) := by decide +kernel
theorem dX1_greater_35 : decode cX1_greater 35 = .ok (.iaload, 1) := by decide +kernel
theorem dX1_greater_36 : decode cX1_greater 36 = .ok (.aload_n 0, 1) := by decide +kernel
theorem dX1_greater_37 : decode cX1_greater 37 = .ok (.getfield 7, 3) := by decide +kernel
theorem dX1_greater_40 : decode cX1_greater 40 = .ok (.iload_n 2, 1) := by decide +kernel
theorem dX1_greater_41 : decode cX1_greater 41 = .ok (.iaload, 1) := by decide +kernel
theorem dX1_greater_42 : decode cX1_greater 42 = .ok (.if_icmp .le 7, 3) := by decide +kernel
theorem dX1_greater_45 : decode cX1_greater 45 = .ok (.iconst 1, 1) := by decide +kernel
theorem dX1_greater_46 : decode cX1_greater 46 = .ok (.goto 4, 3) := by decide +kernel
theorem dX1_greater_49 : decode cX1_greater 49 = .ok (.iconst 0, 1) := by decide +kernel
theorem dX1_greater_50 : decode cX1_greater 50 = .ok (.ireturn, 1) := by decide +kernel
abbrev cX1_gone : ByteArray := prog_3_method_6_code
def yX1_gone : MethodName := ⟨RX1, "gone", "(II)Z"⟩
theorem dX1_gone_0 : decode cX1_gone 0 = .ok (.iconst 0, 1) := by decide +kernel
theorem dX1_gone_1 : decode cX1_gone 1 = .ok (.istore_n 3, 1) := by decide +kernel
theorem dX1_gone_2 : decode cX1_gone 2 = .ok (.iload_n 3, 1) := by decide +kernel
theorem dX1_gone_3 : decode cX1_gone 3 = .ok (.aload_n 0, 1) := by decide +kernel
theorem dX1_gone_4 : decode cX1_gone 4 = .ok (.getfield 32, 3) := by decide +kernel
theorem dX1_gone_7 : decode cX1_gone 7 = .ok (.if_icmp .ge 44, 3) := by decide +kernel
theorem dX1_gone_10 : decode cX1_gone 10 = .ok (.aload_n 0, 1) := by decide +kernel
theorem dX1_gone_11 : decode cX1_gone 11 = .ok (.getfield 26, 3) := by decide +kernel
theorem dX1_gone_14 : decode cX1_gone 14 = .ok (.bipush 48, 2) := by decide +kernel
theorem dX1_gone_16 : decode cX1_gone 16 = .ok (.iload_n 1, 1) := by decide +kernel
theorem dX1_gone_17 : decode cX1_gone 17 = .ok (.imul, 1) := by decide +kernel
theorem dX1_gone_18 : decode cX1_gone 18 = .ok (.iload_n 3, 1) := by decide +kernel
theorem dX1_gone_19 : decode cX1_gone 19 = .ok (.iadd, 1) := by decide +kernel
theorem dX1_gone_20 : decode cX1_gone 20 = .ok (.baload, 1) := by decide +kernel
theorem dX1_gone_21 : decode cX1_gone 21 = .ok (.ifCond .eq 24, 3) := by decide +kernel
theorem dX1_gone_24 : decode cX1_gone 24 = .ok (.aload_n 0, 1) := by decide +kernel
theorem dX1_gone_25 : decode cX1_gone 25 = .ok (.getfield 13, 3) := by decide +kernel
theorem dX1_gone_28 : decode cX1_gone 28 = .ok (.iload_n 3, 1) := by decide +kernel
theorem dX1_gone_29 : decode cX1_gone 29 = .ok (.baload, 1) := by decide +kernel
theorem dX1_gone_30 : decode cX1_gone 30 = .ok (.ifCond .ne 15, 3) := by decide +kernel
theorem dX1_gone_33 : decode cX1_gone 33 = .ok (.aload_n 0, 1) := by decide +kernel
theorem dX1_gone_34 : decode cX1_gone 34 = .ok (.getfield 20, 3) := by decide +kernel
theorem dX1_gone_37 : decode cX1_gone 37 = .ok (.iload_n 3, 1) := by decide +kernel
theorem dX1_gone_38 : decode cX1_gone 38 = .ok (.iaload, 1) := by decide +kernel
theorem dX1_gone_39 : decode cX1_gone 39 = .ok (.iload_n 2, 1) := by decide +kernel
theorem dX1_gone_40 : decode cX1_gone 40 = .ok (.if_icmp .ne 5, 3) := by decide +kernel
theorem dX1_gone_43 : decode cX1_gone 43 = .ok (.iconst 1, 1) := by decide +kernel
theorem dX1_gone_44 : decode cX1_gone 44 = .ok (.ireturn, 1) := by decide +kernel
theorem dX1_gone_45 : decode cX1_gone 45 = .ok (.iinc 3 1, 3) := by decide +kernel
theorem dX1_gone_48 : decode cX1_gone 48 = .ok (.goto (-46), 3) := by decide +kernel
theorem dX1_gone_51 : decode cX1_gone 51 = .ok (.iconst 0, 1) := by decide +kernel
theorem dX1_gone_52 : decode cX1_gone 52 = .ok (.ireturn, 1) := by decide +kernel
abbrev cX1_next : ByteArray := prog_3_method_7_code
def yX1_next : MethodName := ⟨RX1, "next", "(II)I"⟩
theorem dX1_next_0 : decode cX1_next 0 = .ok (.aload_n 0, 1) := by decide +kernel
theorem dX1_next_1 : decode cX1_next 1 = .ok (.iload_n 1, 1) := by decide +kernel
theorem dX1_next_2 : decode cX1_next 2 = .ok (.iload_n 2, 1) := by decide +kernel
theorem dX1_next_3 : decode cX1_next 3 = .ok (.iconst (-1), 1) := by decide +kernel
theorem dX1_next_4 : decode cX1_next 4 = .ok (.invokevirtual 43, 3) := by decide +kernel
theorem dX1_next_7 : decode cX1_next 7 = .ok (.istore_n 3, 1) := by decide +kernel
theorem dX1_next_8 : decode cX1_next 8 = .ok (.iload_n 3, 1) := by decide +kernel
theorem dX1_next_9 : decode cX1_next 9 = .ok (.ifCond .lt 5, 3) := by decide +kernel
theorem dX1_next_12 : decode cX1_next 12 = .ok (.iload_n 3, 1) := by decide +kernel
theorem dX1_next_13 : decode cX1_next 13 = .ok (.ireturn, 1) := by decide +kernel
theorem dX1_next_14 : decode cX1_next 14 = .ok (.iload_n 2, 1) := by decide +kernel
theorem dX1_next_15 : decode cX1_next 15 = .ok (.istore 4, 2) := by decide +kernel
theorem dX1_next_17 : decode cX1_next 17 = .ok (.iconst 0, 1) := by decide +kernel
theorem dX1_next_18 : decode cX1_next 18 = .ok (.istore 5, 2) := by decide +kernel
theorem dX1_next_20 : decode cX1_next 20 = .ok (.iload 5, 2) := by decide +kernel
theorem dX1_next_22 : decode cX1_next 22 = .ok (.bipush 48, 2) := by decide +kernel
theorem dX1_next_24 : decode cX1_next 24 = .ok (.if_icmp .ge 47, 3) := by decide +kernel
theorem dX1_next_27 : decode cX1_next 27 = .ok (.iload 4, 2) := by decide +kernel
theorem dX1_next_29 : decode cX1_next 29 = .ok (.ifCond .lt 42, 3) := by decide +kernel
theorem dX1_next_32 : decode cX1_next 32 = .ok (.aload_n 0, 1) := by decide +kernel
theorem dX1_next_33 : decode cX1_next 33 = .ok (.iload_n 1, 1) := by decide +kernel
theorem dX1_next_34 : decode cX1_next 34 = .ok (.aload_n 0, 1) := by decide +kernel
theorem dX1_next_35 : decode cX1_next 35 = .ok (.getfield 20, 3) := by decide +kernel
theorem dX1_next_38 : decode cX1_next 38 = .ok (.iload 4, 2) := by decide +kernel
theorem dX1_next_40 : decode cX1_next 40 = .ok (.iaload, 1) := by decide +kernel
theorem dX1_next_41 : decode cX1_next 41 = .ok (.iload 4, 2) := by decide +kernel
theorem dX1_next_43 : decode cX1_next 43 = .ok (.invokevirtual 43, 3) := by decide +kernel
theorem dX1_next_46 : decode cX1_next 46 = .ok (.istore 6, 2) := by decide +kernel
theorem dX1_next_48 : decode cX1_next 48 = .ok (.iload 6, 2) := by decide +kernel
theorem dX1_next_50 : decode cX1_next 50 = .ok (.ifCond .lt 6, 3) := by decide +kernel
theorem dX1_next_53 : decode cX1_next 53 = .ok (.iload 6, 2) := by decide +kernel
theorem dX1_next_55 : decode cX1_next 55 = .ok (.ireturn, 1) := by decide +kernel
theorem dX1_next_56 : decode cX1_next 56 = .ok (.aload_n 0, 1) := by decide +kernel
theorem dX1_next_57 : decode cX1_next 57 = .ok (.getfield 20, 3) := by decide +kernel
theorem dX1_next_60 : decode cX1_next 60 = .ok (.iload 4, 2) := by decide +kernel
theorem dX1_next_62 : decode cX1_next 62 = .ok (.iaload, 1) := by decide +kernel
theorem dX1_next_63 : decode cX1_next 63 = .ok (.istore 4, 2) := by decide +kernel
theorem dX1_next_65 : decode cX1_next 65 = .ok (.iinc 5 1, 3) := by decide +kernel
theorem dX1_next_68 : decode cX1_next 68 = .ok (.goto (-48), 3) := by decide +kernel
theorem dX1_next_71 : decode cX1_next 71 = .ok (.iconst (-1), 1) := by decide +kernel
theorem dX1_next_72 : decode cX1_next 72 = .ok (.ireturn, 1) := by decide +kernel
abbrev cX1_make : ByteArray := prog_3_method_10_code
def yX1_make : MethodName := ⟨RX1, "make", "(IZII)I"⟩
theorem dX1_make_0 : decode cX1_make 0 = .ok (.aload_n 0, 1) := by decide +kernel
theorem dX1_make_1 : decode cX1_make 1 = .ok (.getfield 7, 3) := by decide +kernel
theorem dX1_make_4 : decode cX1_make 4 = .ok (.aload_n 0, 1) := by decide +kernel
theorem dX1_make_5 : decode cX1_make 5 = .ok (.getfield 32, 3) := by decide +kernel
theorem dX1_make_8 : decode cX1_make 8 = .ok (.iload_n 1, 1) := by decide +kernel
theorem dX1_make_9 : decode cX1_make 9 = .ok (.iastore, 1) := by decide +kernel
theorem dX1_make_10 : decode cX1_make 10 = .ok (.aload_n 0, 1) := by decide +kernel
theorem dX1_make_11 : decode cX1_make 11 = .ok (.getfield 13, 3) := by decide +kernel
theorem dX1_make_14 : decode cX1_make 14 = .ok (.aload_n 0, 1) := by decide +kernel
theorem dX1_make_15 : decode cX1_make 15 = .ok (.getfield 32, 3) := by decide +kernel
theorem dX1_make_18 : decode cX1_make 18 = .ok (.iload_n 2, 1) := by decide +kernel
theorem dX1_make_19 : decode cX1_make 19 = .ok (.bastore, 1) := by decide +kernel
theorem dX1_make_20 : decode cX1_make 20 = .ok (.aload_n 0, 1) := by decide +kernel
theorem dX1_make_21 : decode cX1_make 21 = .ok (.getfield 20, 3) := by decide +kernel
theorem dX1_make_24 : decode cX1_make 24 = .ok (.aload_n 0, 1) := by decide +kernel
theorem dX1_make_25 : decode cX1_make 25 = .ok (.getfield 32, 3) := by decide +kernel
theorem dX1_make_28 : decode cX1_make 28 = .ok (.iload_n 3, 1) := by decide +kernel
theorem dX1_make_29 : decode cX1_make 29 = .ok (.iastore, 1) := by decide +kernel
theorem dX1_make_30 : decode cX1_make 30 = .ok (.aload_n 0, 1) := by decide +kernel
theorem dX1_make_31 : decode cX1_make 31 = .ok (.getfield 17, 3) := by decide +kernel
theorem dX1_make_34 : decode cX1_make 34 = .ok (.aload_n 0, 1) := by decide +kernel
theorem dX1_make_35 : decode cX1_make 35 = .ok (.getfield 32, 3) := by decide +kernel
theorem dX1_make_38 : decode cX1_make 38 = .ok (.iload 4, 2) := by decide +kernel
theorem dX1_make_40 : decode cX1_make 40 = .ok (.iastore, 1) := by decide +kernel
theorem dX1_make_41 : decode cX1_make 41 = .ok (.aload_n 0, 1) := by decide +kernel
theorem dX1_make_42 : decode cX1_make 42 = .ok (.getfield 23, 3) := by decide +kernel
theorem dX1_make_45 : decode cX1_make 45 = .ok (.aload_n 0, 1) := by decide +kernel
theorem dX1_make_46 : decode cX1_make 46 = .ok (.getfield 32, 3) := by decide +kernel
theorem dX1_make_49 : decode cX1_make 49 = .ok (.aload_n 0, 1) := by decide +kernel
theorem dX1_make_50 : decode cX1_make 50 = .ok (.iload_n 1, 1) := by decide +kernel
theorem dX1_make_51 : decode cX1_make 51 = .ok (.invokevirtual 57, 3) := by decide +kernel
theorem dX1_make_54 : decode cX1_make 54 = .ok (.iconst 1, 1) := by decide +kernel
theorem dX1_make_55 : decode cX1_make 55 = .ok (.iadd, 1) := by decide +kernel
theorem dX1_make_56 : decode cX1_make 56 = .ok (.iastore, 1) := by decide +kernel
theorem dX1_make_57 : decode cX1_make 57 = .ok (.aload_n 0, 1) := by decide +kernel
theorem dX1_make_58 : decode cX1_make 58 = .ok (.getfield 26, 3) := by decide +kernel
theorem dX1_make_61 : decode cX1_make 61 = .ok (.bipush 48, 2) := by decide +kernel
theorem dX1_make_63 : decode cX1_make 63 = .ok (.iload_n 1, 1) := by decide +kernel
theorem dX1_make_64 : decode cX1_make 64 = .ok (.imul, 1) := by decide +kernel
theorem dX1_make_65 : decode cX1_make 65 = .ok (.aload_n 0, 1) := by decide +kernel
theorem dX1_make_66 : decode cX1_make 66 = .ok (.getfield 32, 3) := by decide +kernel
theorem dX1_make_69 : decode cX1_make 69 = .ok (.iadd, 1) := by decide +kernel
theorem dX1_make_70 : decode cX1_make 70 = .ok (.iconst 1, 1) := by decide +kernel
theorem dX1_make_71 : decode cX1_make 71 = .ok (.bastore, 1) := by decide +kernel
theorem dX1_make_72 : decode cX1_make 72 = .ok (.aload_n 0, 1) := by decide +kernel
theorem dX1_make_73 : decode cX1_make 73 = .ok (.dup, 1) := by decide +kernel
theorem dX1_make_74 : decode cX1_make 74 = .ok (.getfield 32, 3) := by decide +kernel
theorem dX1_make_77 : decode cX1_make 77 = .ok (.iconst 1, 1) := by decide +kernel
theorem dX1_make_78 : decode cX1_make 78 = .ok (.iadd, 1) := by decide +kernel
theorem dX1_make_79 : decode cX1_make 79 = .ok (.putfield 32, 3) := by decide +kernel
theorem dX1_make_82 : decode cX1_make 82 = .ok (.aload_n 0, 1) := by decide +kernel
theorem dX1_make_83 : decode cX1_make 83 = .ok (.iload_n 1, 1) := by decide +kernel
theorem dX1_make_84 : decode cX1_make 84 = .ok (.invokevirtual 61, 3) := by decide +kernel
theorem dX1_make_87 : decode cX1_make 87 = .ok (.ireturn, 1) := by decide +kernel
abbrev cX1_greatest : ByteArray := prog_3_method_9_code
def yX1_greatest : MethodName := ⟨RX1, "greatest", "(I)I"⟩
theorem dX1_greatest_0 : decode cX1_greatest 0 = .ok (.iconst 0, 1) := by decide +kernel
theorem dX1_greatest_1 : decode cX1_greatest 1 = .ok (.istore_n 2, 1) := by decide +kernel
theorem dX1_greatest_2 : decode cX1_greatest 2 = .ok (.iconst 0, 1) := by decide +kernel
theorem dX1_greatest_3 : decode cX1_greatest 3 = .ok (.istore_n 3, 1) := by decide +kernel
theorem dX1_greatest_4 : decode cX1_greatest 4 = .ok (.iload_n 3, 1) := by decide +kernel
theorem dX1_greatest_5 : decode cX1_greatest 5 = .ok (.aload_n 0, 1) := by decide +kernel
theorem dX1_greatest_6 : decode cX1_greatest 6 = .ok (.getfield 32, 3) := by decide +kernel
theorem dX1_greatest_9 : decode cX1_greatest 9 = .ok (.if_icmp .ge 35, 3) := by decide +kernel
theorem dX1_greatest_12 : decode cX1_greatest 12 = .ok (.aload_n 0, 1) := by decide +kernel
theorem dX1_greatest_13 : decode cX1_greatest 13 = .ok (.iload_n 1, 1) := by decide +kernel
theorem dX1_greatest_14 : decode cX1_greatest 14 = .ok (.iload_n 3, 1) := by decide +kernel
theorem dX1_greatest_15 : decode cX1_greatest 15 = .ok (.invokevirtual 36, 3) := by decide +kernel
theorem dX1_greatest_18 : decode cX1_greatest 18 = .ok (.ifCond .eq 20, 3) := by decide +kernel
theorem dX1_greatest_21 : decode cX1_greatest 21 = .ok (.aload_n 0, 1) := by decide +kernel
theorem dX1_greatest_22 : decode cX1_greatest 22 = .ok (.getfield 23, 3) := by decide +kernel
theorem dX1_greatest_25 : decode cX1_greatest 25 = .ok (.iload_n 3, 1) := by decide +kernel
theorem dX1_greatest_26 : decode cX1_greatest 26 = .ok (.iaload, 1) := by decide +kernel
theorem dX1_greatest_27 : decode cX1_greatest 27 = .ok (.iload_n 2, 1) := by decide +kernel
theorem dX1_greatest_28 : decode cX1_greatest 28 = .ok (.if_icmp .le 10, 3) := by decide +kernel
theorem dX1_greatest_31 : decode cX1_greatest 31 = .ok (.aload_n 0, 1) := by decide +kernel
theorem dX1_greatest_32 : decode cX1_greatest 32 = .ok (.getfield 23, 3) := by decide +kernel
theorem dX1_greatest_35 : decode cX1_greatest 35 = .ok (.iload_n 3, 1) := by decide +kernel
theorem dX1_greatest_36 : decode cX1_greatest 36 = .ok (.iaload, 1) := by decide +kernel
theorem dX1_greatest_37 : decode cX1_greatest 37 = .ok (.istore_n 2, 1) := by decide +kernel
theorem dX1_greatest_38 : decode cX1_greatest 38 = .ok (.iinc 3 1, 3) := by decide +kernel
theorem dX1_greatest_41 : decode cX1_greatest 41 = .ok (.goto (-37), 3) := by decide +kernel
theorem dX1_greatest_44 : decode cX1_greatest 44 = .ok (.iload_n 2, 1) := by decide +kernel
theorem dX1_greatest_45 : decode cX1_greatest 45 = .ok (.ireturn, 1) := by decide +kernel
abbrev cX1_length : ByteArray := prog_3_method_15_code
def yX1_length : MethodName := ⟨RX1, "length", "(I)I"⟩
theorem dX1_length_0 : decode cX1_length 0 = .ok (.iload_n 1, 1) := by decide +kernel
theorem dX1_length_1 : decode cX1_length 1 = .ok (.invokestatic 64, 3) := by decide +kernel
theorem dX1_length_4 : decode cX1_length 4 = .ok (.ifCond .eq 5, 3) := by decide +kernel
theorem dX1_length_7 : decode cX1_length 7 = .ok (.iconst (-1), 1) := by decide +kernel
theorem dX1_length_8 : decode cX1_length 8 = .ok (.ireturn, 1) := by decide +kernel
theorem dX1_length_9 : decode cX1_length 9 = .ok (.aload_n 0, 1) := by decide +kernel
theorem dX1_length_10 : decode cX1_length 10 = .ok (.iload_n 1, 1) := by decide +kernel
theorem dX1_length_11 : decode cX1_length 11 = .ok (.invokevirtual 68, 3) := by decide +kernel
theorem dX1_length_14 : decode cX1_length 14 = .ok (.aload_n 0, 1) := by decide +kernel
theorem dX1_length_15 : decode cX1_length 15 = .ok (.getfield 47, 3) := by decide +kernel
theorem dX1_length_18 : decode cX1_length 18 = .ok (.ireturn, 1) := by decide +kernel
abbrev cX1_delete : ByteArray := prog_3_method_12_code
def yX1_delete : MethodName := ⟨RX1, "delete", "(II)I"⟩
theorem dX1_delete_0 : decode cX1_delete 0 = .ok (.iload_n 1, 1) := by decide +kernel
theorem dX1_delete_1 : decode cX1_delete 1 = .ok (.invokestatic 64, 3) := by decide +kernel
theorem dX1_delete_4 : decode cX1_delete 4 = .ok (.ifCond .eq 5, 3) := by decide +kernel
theorem dX1_delete_7 : decode cX1_delete 7 = .ok (.iconst (-1), 1) := by decide +kernel
theorem dX1_delete_8 : decode cX1_delete 8 = .ok (.ireturn, 1) := by decide +kernel
theorem dX1_delete_9 : decode cX1_delete 9 = .ok (.aload_n 0, 1) := by decide +kernel
theorem dX1_delete_10 : decode cX1_delete 10 = .ok (.iload_n 1, 1) := by decide +kernel
theorem dX1_delete_11 : decode cX1_delete 11 = .ok (.invokevirtual 68, 3) := by decide +kernel
theorem dX1_delete_14 : decode cX1_delete 14 = .ok (.iload_n 2, 1) := by decide +kernel
theorem dX1_delete_15 : decode cX1_delete 15 = .ok (.ifCond .lt 20, 3) := by decide +kernel
theorem dX1_delete_18 : decode cX1_delete 18 = .ok (.iload_n 2, 1) := by decide +kernel
theorem dX1_delete_19 : decode cX1_delete 19 = .ok (.aload_n 0, 1) := by decide +kernel
theorem dX1_delete_20 : decode cX1_delete 20 = .ok (.getfield 47, 3) := by decide +kernel
theorem dX1_delete_23 : decode cX1_delete 23 = .ok (.if_icmp .ge 12, 3) := by decide +kernel
theorem dX1_delete_26 : decode cX1_delete 26 = .ok (.aload_n 0, 1) := by decide +kernel
theorem dX1_delete_27 : decode cX1_delete 27 = .ok (.getfield 32, 3) := by decide +kernel
theorem dX1_delete_30 : decode cX1_delete 30 = .ok (.bipush 48, 2) := by decide +kernel
theorem dX1_delete_32 : decode cX1_delete 32 = .ok (.if_icmp .ne 5, 3) := by decide +kernel
theorem dX1_delete_35 : decode cX1_delete 35 = .ok (.iconst (-1), 1) := by decide +kernel
theorem dX1_delete_36 : decode cX1_delete 36 = .ok (.ireturn, 1) := by decide +kernel
theorem dX1_delete_37 : decode cX1_delete 37 = .ok (.aload_n 0, 1) := by decide +kernel
theorem dX1_delete_38 : decode cX1_delete 38 = .ok (.iload_n 1, 1) := by decide +kernel
theorem dX1_delete_39 : decode cX1_delete 39 = .ok (.iconst 0, 1) := by decide +kernel
theorem dX1_delete_40 : decode cX1_delete 40 = .ok (.aload_n 0, 1) := by decide +kernel
theorem dX1_delete_41 : decode cX1_delete 41 = .ok (.getfield 29, 3) := by decide +kernel
theorem dX1_delete_44 : decode cX1_delete 44 = .ok (.iload_n 2, 1) := by decide +kernel
theorem dX1_delete_45 : decode cX1_delete 45 = .ok (.iaload, 1) := by decide +kernel
theorem dX1_delete_46 : decode cX1_delete 46 = .ok (.iconst 0, 1) := by decide +kernel
theorem dX1_delete_47 : decode cX1_delete 47 = .ok (.invokevirtual 72, 3) := by decide +kernel
theorem dX1_delete_50 : decode cX1_delete 50 = .ok (.ireturn, 1) := by decide +kernel
abbrev cX1_deliver : ByteArray := prog_3_method_13_code
def yX1_deliver : MethodName := ⟨RX1, "deliver", "(II)I"⟩
theorem dX1_deliver_0 : decode cX1_deliver 0 = .ok (.iload_n 1, 1) := by decide +kernel
theorem dX1_deliver_1 : decode cX1_deliver 1 = .ok (.invokestatic 64, 3) := by decide +kernel
theorem dX1_deliver_4 : decode cX1_deliver 4 = .ok (.ifCond .ne 10, 3) := by decide +kernel
theorem dX1_deliver_7 : decode cX1_deliver 7 = .ok (.iload_n 2, 1) := by decide +kernel
theorem dX1_deliver_8 : decode cX1_deliver 8 = .ok (.invokestatic 64, 3) := by decide +kernel
theorem dX1_deliver_11 : decode cX1_deliver 11 = .ok (.ifCond .eq 5, 3) := by decide +kernel
theorem dX1_deliver_14 : decode cX1_deliver 14 = .ok (.iconst (-1), 1) := by decide +kernel
theorem dX1_deliver_15 : decode cX1_deliver 15 = .ok (.ireturn, 1) := by decide +kernel
theorem dX1_deliver_16 : decode cX1_deliver 16 = .ok (.iconst 0, 1) := by decide +kernel
theorem dX1_deliver_17 : decode cX1_deliver 17 = .ok (.istore_n 3, 1) := by decide +kernel
theorem dX1_deliver_18 : decode cX1_deliver 18 = .ok (.iload_n 3, 1) := by decide +kernel
theorem dX1_deliver_19 : decode cX1_deliver 19 = .ok (.aload_n 0, 1) := by decide +kernel
theorem dX1_deliver_20 : decode cX1_deliver 20 = .ok (.getfield 32, 3) := by decide +kernel
theorem dX1_deliver_23 : decode cX1_deliver 23 = .ok (.if_icmp .ge 78, 3) := by decide +kernel
theorem dX1_deliver_26 : decode cX1_deliver 26 = .ok (.aload_n 0, 1) := by decide +kernel
theorem dX1_deliver_27 : decode cX1_deliver 27 = .ok (.getfield 7, 3) := by decide +kernel
theorem dX1_deliver_30 : decode cX1_deliver 30 = .ok (.iload_n 3, 1) := by decide +kernel
theorem dX1_deliver_31 : decode cX1_deliver 31 = .ok (.iaload, 1) := by decide +kernel
theorem dX1_deliver_32 : decode cX1_deliver 32 = .ok (.iload_n 1, 1) := by decide +kernel
theorem dX1_deliver_33 : decode cX1_deliver 33 = .ok (.if_icmp .ne 62, 3) := by decide +kernel
theorem dX1_deliver_36 : decode cX1_deliver 36 = .ok (.aload_n 0, 1) := by decide +kernel
theorem dX1_deliver_37 : decode cX1_deliver 37 = .ok (.getfield 26, 3) := by decide +kernel
theorem dX1_deliver_40 : decode cX1_deliver 40 = .ok (.bipush 48, 2) := by decide +kernel
theorem dX1_deliver_42 : decode cX1_deliver 42 = .ok (.iload_n 2, 1) := by decide +kernel
theorem dX1_deliver_43 : decode cX1_deliver 43 = .ok (.imul, 1) := by decide +kernel
theorem dX1_deliver_44 : decode cX1_deliver 44 = .ok (.iload_n 3, 1) := by decide +kernel
theorem dX1_deliver_45 : decode cX1_deliver 45 = .ok (.iadd, 1) := by decide +kernel
theorem dX1_deliver_46 : decode cX1_deliver 46 = .ok (.baload, 1) := by decide +kernel
theorem dX1_deliver_47 : decode cX1_deliver 47 = .ok (.ifCond .ne 48, 3) := by decide +kernel
theorem dX1_deliver_50 : decode cX1_deliver 50 = .ok (.aload_n 0, 1) := by decide +kernel
theorem dX1_deliver_51 : decode cX1_deliver 51 = .ok (.getfield 20, 3) := by decide +kernel
theorem dX1_deliver_54 : decode cX1_deliver 54 = .ok (.iload_n 3, 1) := by decide +kernel
theorem dX1_deliver_55 : decode cX1_deliver 55 = .ok (.iaload, 1) := by decide +kernel
theorem dX1_deliver_56 : decode cX1_deliver 56 = .ok (.ifCond .lt 25, 3) := by decide +kernel
theorem dX1_deliver_59 : decode cX1_deliver 59 = .ok (.aload_n 0, 1) := by decide +kernel
theorem dX1_deliver_60 : decode cX1_deliver 60 = .ok (.getfield 26, 3) := by decide +kernel
theorem dX1_deliver_63 : decode cX1_deliver 63 = .ok (.bipush 48, 2) := by decide +kernel
theorem dX1_deliver_65 : decode cX1_deliver 65 = .ok (.iload_n 2, 1) := by decide +kernel
theorem dX1_deliver_66 : decode cX1_deliver 66 = .ok (.imul, 1) := by decide +kernel
theorem dX1_deliver_67 : decode cX1_deliver 67 = .ok (.aload_n 0, 1) := by decide +kernel
theorem dX1_deliver_68 : decode cX1_deliver 68 = .ok (.getfield 20, 3) := by decide +kernel
theorem dX1_deliver_71 : decode cX1_deliver 71 = .ok (.iload_n 3, 1) := by decide +kernel
theorem dX1_deliver_72 : decode cX1_deliver 72 = .ok (.iaload, 1) := by decide +kernel
theorem dX1_deliver_73 : decode cX1_deliver 73 = .ok (.iadd, 1) := by decide +kernel
theorem dX1_deliver_74 : decode cX1_deliver 74 = .ok (.baload, 1) := by decide +kernel
theorem dX1_deliver_75 : decode cX1_deliver 75 = .ok (.ifCond .ne 6, 3) := by decide +kernel
theorem dX1_deliver_78 : decode cX1_deliver 78 = .ok (.bipush (-2), 2) := by decide +kernel
theorem dX1_deliver_80 : decode cX1_deliver 80 = .ok (.ireturn, 1) := by decide +kernel
theorem dX1_deliver_81 : decode cX1_deliver 81 = .ok (.aload_n 0, 1) := by decide +kernel
theorem dX1_deliver_82 : decode cX1_deliver 82 = .ok (.getfield 26, 3) := by decide +kernel
theorem dX1_deliver_85 : decode cX1_deliver 85 = .ok (.bipush 48, 2) := by decide +kernel
theorem dX1_deliver_87 : decode cX1_deliver 87 = .ok (.iload_n 2, 1) := by decide +kernel
theorem dX1_deliver_88 : decode cX1_deliver 88 = .ok (.imul, 1) := by decide +kernel
theorem dX1_deliver_89 : decode cX1_deliver 89 = .ok (.iload_n 3, 1) := by decide +kernel
theorem dX1_deliver_90 : decode cX1_deliver 90 = .ok (.iadd, 1) := by decide +kernel
theorem dX1_deliver_91 : decode cX1_deliver 91 = .ok (.iconst 1, 1) := by decide +kernel
theorem dX1_deliver_92 : decode cX1_deliver 92 = .ok (.bastore, 1) := by decide +kernel
theorem dX1_deliver_93 : decode cX1_deliver 93 = .ok (.iconst 0, 1) := by decide +kernel
theorem dX1_deliver_94 : decode cX1_deliver 94 = .ok (.ireturn, 1) := by decide +kernel
theorem dX1_deliver_95 : decode cX1_deliver 95 = .ok (.iinc 3 1, 3) := by decide +kernel
theorem dX1_deliver_98 : decode cX1_deliver 98 = .ok (.goto (-80), 3) := by decide +kernel
theorem dX1_deliver_101 : decode cX1_deliver 101 = .ok (.iconst (-1), 1) := by decide +kernel
theorem dX1_deliver_102 : decode cX1_deliver 102 = .ok (.ireturn, 1) := by decide +kernel
abbrev cX1_sync : ByteArray := prog_3_method_14_code
def yX1_sync : MethodName := ⟨RX1, "sync", "(II)I"⟩
theorem dX1_sync_0 : decode cX1_sync 0 = .ok (.iload_n 1, 1) := by decide +kernel
theorem dX1_sync_1 : decode cX1_sync 1 = .ok (.invokestatic 64, 3) := by decide +kernel
theorem dX1_sync_4 : decode cX1_sync 4 = .ok (.ifCond .ne 10, 3) := by decide +kernel
theorem dX1_sync_7 : decode cX1_sync 7 = .ok (.iload_n 2, 1) := by decide +kernel
theorem dX1_sync_8 : decode cX1_sync 8 = .ok (.invokestatic 64, 3) := by decide +kernel
theorem dX1_sync_11 : decode cX1_sync 11 = .ok (.ifCond .eq 5, 3) := by decide +kernel
theorem dX1_sync_14 : decode cX1_sync 14 = .ok (.iconst (-1), 1) := by decide +kernel
theorem dX1_sync_15 : decode cX1_sync 15 = .ok (.ireturn, 1) := by decide +kernel
theorem dX1_sync_16 : decode cX1_sync 16 = .ok (.iconst 0, 1) := by decide +kernel
theorem dX1_sync_17 : decode cX1_sync 17 = .ok (.istore_n 3, 1) := by decide +kernel
theorem dX1_sync_18 : decode cX1_sync 18 = .ok (.iload_n 3, 1) := by decide +kernel
theorem dX1_sync_19 : decode cX1_sync 19 = .ok (.aload_n 0, 1) := by decide +kernel
theorem dX1_sync_20 : decode cX1_sync 20 = .ok (.getfield 32, 3) := by decide +kernel
theorem dX1_sync_23 : decode cX1_sync 23 = .ok (.if_icmp .ge 35, 3) := by decide +kernel
theorem dX1_sync_26 : decode cX1_sync 26 = .ok (.aload_n 0, 1) := by decide +kernel
theorem dX1_sync_27 : decode cX1_sync 27 = .ok (.getfield 26, 3) := by decide +kernel
theorem dX1_sync_30 : decode cX1_sync 30 = .ok (.bipush 48, 2) := by decide +kernel
theorem dX1_sync_32 : decode cX1_sync 32 = .ok (.iload_n 1, 1) := by decide +kernel
theorem dX1_sync_33 : decode cX1_sync 33 = .ok (.imul, 1) := by decide +kernel
theorem dX1_sync_34 : decode cX1_sync 34 = .ok (.iload_n 3, 1) := by decide +kernel
theorem dX1_sync_35 : decode cX1_sync 35 = .ok (.iadd, 1) := by decide +kernel
theorem dX1_sync_36 : decode cX1_sync 36 = .ok (.baload, 1) := by decide +kernel
theorem dX1_sync_37 : decode cX1_sync 37 = .ok (.ifCond .eq 15, 3) := by decide +kernel
theorem dX1_sync_40 : decode cX1_sync 40 = .ok (.aload_n 0, 1) := by decide +kernel
theorem dX1_sync_41 : decode cX1_sync 41 = .ok (.getfield 26, 3) := by decide +kernel
theorem dX1_sync_44 : decode cX1_sync 44 = .ok (.bipush 48, 2) := by decide +kernel
theorem dX1_sync_46 : decode cX1_sync 46 = .ok (.iload_n 2, 1) := by decide +kernel
theorem dX1_sync_47 : decode cX1_sync 47 = .ok (.imul, 1) := by decide +kernel
theorem dX1_sync_48 : decode cX1_sync 48 = .ok (.iload_n 3, 1) := by decide +kernel
theorem dX1_sync_49 : decode cX1_sync 49 = .ok (.iadd, 1) := by decide +kernel
theorem dX1_sync_50 : decode cX1_sync 50 = .ok (.iconst 1, 1) := by decide +kernel
theorem dX1_sync_51 : decode cX1_sync 51 = .ok (.bastore, 1) := by decide +kernel
theorem dX1_sync_52 : decode cX1_sync 52 = .ok (.iinc 3 1, 3) := by decide +kernel
theorem dX1_sync_55 : decode cX1_sync 55 = .ok (.goto (-37), 3) := by decide +kernel
theorem dX1_sync_58 : decode cX1_sync 58 = .ok (.iconst 0, 1) := by decide +kernel
theorem dX1_sync_59 : decode cX1_sync 59 = .ok (.ireturn, 1) := by decide +kernel
abbrev cX1_letter : ByteArray := prog_3_method_16_code
def yX1_letter : MethodName := ⟨RX1, "letter", "(II)I"⟩
theorem dX1_letter_0 : decode cX1_letter 0 = .ok (.iload_n 1, 1) := by decide +kernel
theorem dX1_letter_1 : decode cX1_letter 1 = .ok (.invokestatic 64, 3) := by decide +kernel
theorem dX1_letter_4 : decode cX1_letter 4 = .ok (.ifCond .eq 5, 3) := by decide +kernel
theorem dX1_letter_7 : decode cX1_letter 7 = .ok (.iconst 0, 1) := by decide +kernel
theorem dX1_letter_8 : decode cX1_letter 8 = .ok (.ireturn, 1) := by decide +kernel
theorem dX1_letter_9 : decode cX1_letter 9 = .ok (.aload_n 0, 1) := by decide +kernel
theorem dX1_letter_10 : decode cX1_letter 10 = .ok (.iload_n 1, 1) := by decide +kernel
theorem dX1_letter_11 : decode cX1_letter 11 = .ok (.invokevirtual 68, 3) := by decide +kernel
theorem dX1_letter_14 : decode cX1_letter 14 = .ok (.iload_n 2, 1) := by decide +kernel
theorem dX1_letter_15 : decode cX1_letter 15 = .ok (.ifCond .lt 11, 3) := by decide +kernel
theorem dX1_letter_18 : decode cX1_letter 18 = .ok (.iload_n 2, 1) := by decide +kernel
theorem dX1_letter_19 : decode cX1_letter 19 = .ok (.aload_n 0, 1) := by decide +kernel
theorem dX1_letter_20 : decode cX1_letter 20 = .ok (.getfield 47, 3) := by decide +kernel
theorem dX1_letter_23 : decode cX1_letter 23 = .ok (.if_icmp .lt 7, 3) := by decide +kernel
theorem dX1_letter_26 : decode cX1_letter 26 = .ok (.iconst 0, 1) := by decide +kernel
theorem dX1_letter_27 : decode cX1_letter 27 = .ok (.goto 14, 3) := by decide +kernel
theorem dX1_letter_30 : decode cX1_letter 30 = .ok (.aload_n 0, 1) := by decide +kernel
theorem dX1_letter_31 : decode cX1_letter 31 = .ok (.getfield 17, 3) := by decide +kernel
theorem dX1_letter_34 : decode cX1_letter 34 = .ok (.aload_n 0, 1) := by decide +kernel
theorem dX1_letter_35 : decode cX1_letter 35 = .ok (.getfield 29, 3) := by decide +kernel
theorem dX1_letter_38 : decode cX1_letter 38 = .ok (.iload_n 2, 1) := by decide +kernel
theorem dX1_letter_39 : decode cX1_letter 39 = .ok (.iaload, 1) := by decide +kernel
theorem dX1_letter_40 : decode cX1_letter 40 = .ok (.iaload, 1) := by decide +kernel
theorem dX1_letter_41 : decode cX1_letter 41 = .ok (.ireturn, 1) := by decide +kernel
abbrev cX1_row : ByteArray := prog_3_method_17_code
def yX1_row : MethodName := ⟨RX1, "row", "(I)I"⟩
theorem dX1_row_0 : decode cX1_row 0 = .ok (.iload_n 1, 1) := by decide +kernel
theorem dX1_row_1 : decode cX1_row 1 = .ok (.invokestatic 64, 3) := by decide +kernel
theorem dX1_row_4 : decode cX1_row 4 = .ok (.ifCond .eq 5, 3) := by decide +kernel
theorem dX1_row_7 : decode cX1_row 7 = .ok (.iconst (-1), 1) := by decide +kernel
theorem dX1_row_8 : decode cX1_row 8 = .ok (.ireturn, 1) := by decide +kernel
theorem dX1_row_9 : decode cX1_row 9 = .ok (.iconst 0, 1) := by decide +kernel
theorem dX1_row_10 : decode cX1_row 10 = .ok (.istore_n 2, 1) := by decide +kernel
theorem dX1_row_11 : decode cX1_row 11 = .ok (.iconst 0, 1) := by decide +kernel
theorem dX1_row_12 : decode cX1_row 12 = .ok (.istore_n 3, 1) := by decide +kernel
theorem dX1_row_13 : decode cX1_row 13 = .ok (.iload_n 3, 1) := by decide +kernel
theorem dX1_row_14 : decode cX1_row 14 = .ok (.aload_n 0, 1) := by decide +kernel
theorem dX1_row_15 : decode cX1_row 15 = .ok (.getfield 32, 3) := by decide +kernel
theorem dX1_row_18 : decode cX1_row 18 = .ok (.if_icmp .ge 21, 3) := by decide +kernel
theorem dX1_row_21 : decode cX1_row 21 = .ok (.aload_n 0, 1) := by decide +kernel
theorem dX1_row_22 : decode cX1_row 22 = .ok (.iload_n 1, 1) := by decide +kernel
theorem dX1_row_23 : decode cX1_row 23 = .ok (.iload_n 3, 1) := by decide +kernel
theorem dX1_row_24 : decode cX1_row 24 = .ok (.invokevirtual 36, 3) := by decide +kernel
theorem dX1_row_27 : decode cX1_row 27 = .ok (.ifCond .eq 6, 3) := by decide +kernel
theorem dX1_row_30 : decode cX1_row 30 = .ok (.iinc 2 1, 3) := by decide +kernel
theorem dX1_row_33 : decode cX1_row 33 = .ok (.iinc 3 1, 3) := by decide +kernel
theorem dX1_row_36 : decode cX1_row 36 = .ok (.goto (-23), 3) := by decide +kernel
theorem dX1_row_39 : decode cX1_row 39 = .ok (.iload_n 2, 1) := by decide +kernel
theorem dX1_row_40 : decode cX1_row 40 = .ok (.ireturn, 1) := by decide +kernel
abbrev cX1_known : ByteArray := prog_3_method_18_code
def yX1_known : MethodName := ⟨RX1, "known", "(II)I"⟩
theorem dX1_known_0 : decode cX1_known 0 = .ok (.iload_n 1, 1) := by decide +kernel
theorem dX1_known_1 : decode cX1_known 1 = .ok (.invokestatic 64, 3) := by decide +kernel
theorem dX1_known_4 : decode cX1_known 4 = .ok (.ifCond .ne 10, 3) := by decide +kernel
theorem dX1_known_7 : decode cX1_known 7 = .ok (.iload_n 2, 1) := by decide +kernel
theorem dX1_known_8 : decode cX1_known 8 = .ok (.invokestatic 64, 3) := by decide +kernel
theorem dX1_known_11 : decode cX1_known 11 = .ok (.ifCond .eq 5, 3) := by decide +kernel
theorem dX1_known_14 : decode cX1_known 14 = .ok (.iconst (-1), 1) := by decide +kernel
theorem dX1_known_15 : decode cX1_known 15 = .ok (.ireturn, 1) := by decide +kernel
theorem dX1_known_16 : decode cX1_known 16 = .ok (.iconst 0, 1) := by decide +kernel
theorem dX1_known_17 : decode cX1_known 17 = .ok (.istore_n 3, 1) := by decide +kernel
theorem dX1_known_18 : decode cX1_known 18 = .ok (.iconst 0, 1) := by decide +kernel
theorem dX1_known_19 : decode cX1_known 19 = .ok (.istore 4, 2) := by decide +kernel
theorem dX1_known_21 : decode cX1_known 21 = .ok (.iload 4, 2) := by decide +kernel
theorem dX1_known_23 : decode cX1_known 23 = .ok (.aload_n 0, 1) := by decide +kernel
theorem dX1_known_24 : decode cX1_known 24 = .ok (.getfield 32, 3) := by decide +kernel
theorem dX1_known_27 : decode cX1_known 27 = .ok (.if_icmp .ge 38, 3) := by decide +kernel
theorem dX1_known_30 : decode cX1_known 30 = .ok (.aload_n 0, 1) := by decide +kernel
theorem dX1_known_31 : decode cX1_known 31 = .ok (.getfield 26, 3) := by decide +kernel
theorem dX1_known_34 : decode cX1_known 34 = .ok (.bipush 48, 2) := by decide +kernel
theorem dX1_known_36 : decode cX1_known 36 = .ok (.iload_n 1, 1) := by decide +kernel
theorem dX1_known_37 : decode cX1_known 37 = .ok (.imul, 1) := by decide +kernel
theorem dX1_known_38 : decode cX1_known 38 = .ok (.iload 4, 2) := by decide +kernel
theorem dX1_known_40 : decode cX1_known 40 = .ok (.iadd, 1) := by decide +kernel
theorem dX1_known_41 : decode cX1_known 41 = .ok (.baload, 1) := by decide +kernel
theorem dX1_known_42 : decode cX1_known 42 = .ok (.ifCond .eq 17, 3) := by decide +kernel
theorem dX1_known_45 : decode cX1_known 45 = .ok (.aload_n 0, 1) := by decide +kernel
theorem dX1_known_46 : decode cX1_known 46 = .ok (.getfield 7, 3) := by decide +kernel
theorem dX1_known_49 : decode cX1_known 49 = .ok (.iload 4, 2) := by decide +kernel
theorem dX1_known_51 : decode cX1_known 51 = .ok (.iaload, 1) := by decide +kernel
theorem dX1_known_52 : decode cX1_known 52 = .ok (.iload_n 2, 1) := by decide +kernel
theorem dX1_known_53 : decode cX1_known 53 = .ok (.if_icmp .ne 6, 3) := by decide +kernel
theorem dX1_known_56 : decode cX1_known 56 = .ok (.iinc 3 1, 3) := by decide +kernel
theorem dX1_known_59 : decode cX1_known 59 = .ok (.iinc 4 1, 3) := by decide +kernel
theorem dX1_known_62 : decode cX1_known 62 = .ok (.goto (-41), 3) := by decide +kernel
theorem dX1_known_65 : decode cX1_known 65 = .ok (.iload_n 3, 1) := by decide +kernel
theorem dX1_known_66 : decode cX1_known 66 = .ok (.ireturn, 1) := by decide +kernel
abbrev cX1_alike : ByteArray := prog_3_method_19_code
def yX1_alike : MethodName := ⟨RX1, "alike", "(II)I"⟩
theorem dX1_alike_0 : decode cX1_alike 0 = .ok (.iload_n 1, 1) := by decide +kernel
theorem dX1_alike_1 : decode cX1_alike 1 = .ok (.invokestatic 64, 3) := by decide +kernel
theorem dX1_alike_4 : decode cX1_alike 4 = .ok (.ifCond .ne 10, 3) := by decide +kernel
theorem dX1_alike_7 : decode cX1_alike 7 = .ok (.iload_n 2, 1) := by decide +kernel
theorem dX1_alike_8 : decode cX1_alike 8 = .ok (.invokestatic 64, 3) := by decide +kernel
theorem dX1_alike_11 : decode cX1_alike 11 = .ok (.ifCond .eq 5, 3) := by decide +kernel
theorem dX1_alike_14 : decode cX1_alike 14 = .ok (.iconst (-1), 1) := by decide +kernel
theorem dX1_alike_15 : decode cX1_alike 15 = .ok (.ireturn, 1) := by decide +kernel
theorem dX1_alike_16 : decode cX1_alike 16 = .ok (.aload_n 0, 1) := by decide +kernel
theorem dX1_alike_17 : decode cX1_alike 17 = .ok (.iload_n 1, 1) := by decide +kernel
theorem dX1_alike_18 : decode cX1_alike 18 = .ok (.invokevirtual 61, 3) := by decide +kernel
theorem dX1_alike_21 : decode cX1_alike 21 = .ok (.istore_n 3, 1) := by decide +kernel
theorem dX1_alike_22 : decode cX1_alike 22 = .ok (.aload_n 0, 1) := by decide +kernel
theorem dX1_alike_23 : decode cX1_alike 23 = .ok (.iload_n 2, 1) := by decide +kernel
theorem dX1_alike_24 : decode cX1_alike 24 = .ok (.invokevirtual 61, 3) := by decide +kernel
theorem dX1_alike_27 : decode cX1_alike 27 = .ok (.iload_n 3, 1) := by decide +kernel
theorem dX1_alike_28 : decode cX1_alike 28 = .ok (.if_icmp .eq 5, 3) := by decide +kernel
theorem dX1_alike_31 : decode cX1_alike 31 = .ok (.iconst 0, 1) := by decide +kernel
theorem dX1_alike_32 : decode cX1_alike 32 = .ok (.ireturn, 1) := by decide +kernel
theorem dX1_alike_33 : decode cX1_alike 33 = .ok (.iconst 0, 1) := by decide +kernel
theorem dX1_alike_34 : decode cX1_alike 34 = .ok (.istore 4, 2) := by decide +kernel
theorem dX1_alike_36 : decode cX1_alike 36 = .ok (.iload 4, 2) := by decide +kernel
theorem dX1_alike_38 : decode cX1_alike 38 = .ok (.iload_n 3, 1) := by decide +kernel
theorem dX1_alike_39 : decode cX1_alike 39 = .ok (.if_icmp .ge 28, 3) := by decide +kernel
theorem dX1_alike_42 : decode cX1_alike 42 = .ok (.aload_n 0, 1) := by decide +kernel
theorem dX1_alike_43 : decode cX1_alike 43 = .ok (.iload_n 1, 1) := by decide +kernel
theorem dX1_alike_44 : decode cX1_alike 44 = .ok (.iload 4, 2) := by decide +kernel
theorem dX1_alike_46 : decode cX1_alike 46 = .ok (.invokevirtual 76, 3) := by decide +kernel
theorem dX1_alike_49 : decode cX1_alike 49 = .ok (.aload_n 0, 1) := by decide +kernel
theorem dX1_alike_50 : decode cX1_alike 50 = .ok (.iload_n 2, 1) := by decide +kernel
theorem dX1_alike_51 : decode cX1_alike 51 = .ok (.iload 4, 2) := by decide +kernel
theorem dX1_alike_53 : decode cX1_alike 53 = .ok (.invokevirtual 76, 3) := by decide +kernel
theorem dX1_alike_56 : decode cX1_alike 56 = .ok (.if_icmp .eq 5, 3) := by decide +kernel
theorem dX1_alike_59 : decode cX1_alike 59 = .ok (.iconst 0, 1) := by decide +kernel
theorem dX1_alike_60 : decode cX1_alike 60 = .ok (.ireturn, 1) := by decide +kernel
theorem dX1_alike_61 : decode cX1_alike 61 = .ok (.iinc 4 1, 3) := by decide +kernel
theorem dX1_alike_64 : decode cX1_alike 64 = .ok (.goto (-28), 3) := by decide +kernel
theorem dX1_alike_67 : decode cX1_alike 67 = .ok (.iconst 1, 1) := by decide +kernel
theorem dX1_alike_68 : decode cX1_alike 68 = .ok (.ireturn, 1) := by decide +kernel
theorem q18 : (Jvm.Cond.initialized "TextReplicaModel") ∈ lw_all := lw_g (lw_at lw_m0 2 rfl) rfl
theorem q150 : (Jvm.Cond.instantiable "TextReplicaModel" (9 : Nat)) ∈ lw_all := lw_g (lw_at lw_m0 134 rfl) rfl
theorem q152 : (Jvm.Cond.instanceMethod ({ cls := "TextReplicaModel", name := "<init>", desc := "()V" } : Jvm.MethodName)) ∈ lw_all := lw_g (lw_at lw_m0 136 rfl) rfl
theorem q153 : (Jvm.Cond.code ({ cls := "TextReplicaModel", name := "<init>", desc := "()V" } : Jvm.MethodName) prog_3_method_1_code (1 : Nat) (Option.none : Option Jvm.ClassFile.FieldType)) ∈ lw_all := lw_g (lw_at lw_m0 137 rfl) rfl
theorem q154 : (Jvm.Cond.methodLink "TextReplicaModel" (1 : Nat) ({ cls := "java/lang/Object", name := "<init>", desc := "()V" } : Jvm.MethodName)) ∈ lw_all := lw_g (lw_at lw_m0 138 rfl) rfl
theorem q155 : (Jvm.Cond.fieldLink "TextReplicaModel" (32 : Nat) "TextReplicaModel" "made" "I") ∈ lw_all := lw_g (lw_at lw_m0 139 rfl) rfl
theorem q156 : (Jvm.Cond.fieldLink "TextReplicaModel" (7 : Nat) "TextReplicaModel" "origin" "[I") ∈ lw_all := lw_g (lw_at lw_m0 140 rfl) rfl
theorem q157 : (Jvm.Cond.fieldLink "TextReplicaModel" (13 : Nat) "TextReplicaModel" "isInsert" "[Z") ∈ lw_all := lw_g (lw_at lw_m0 141 rfl) rfl
theorem q158 : (Jvm.Cond.fieldLink "TextReplicaModel" (17 : Nat) "TextReplicaModel" "letters" "[I") ∈ lw_all := lw_g (lw_at lw_m0 142 rfl) rfl
theorem q159 : (Jvm.Cond.fieldLink "TextReplicaModel" (20 : Nat) "TextReplicaModel" "target" "[I") ∈ lw_all := lw_g (lw_at lw_m0 143 rfl) rfl
theorem q160 : (Jvm.Cond.fieldLink "TextReplicaModel" (23 : Nat) "TextReplicaModel" "stamp" "[I") ∈ lw_all := lw_g (lw_at lw_m0 144 rfl) rfl
theorem q161 : (Jvm.Cond.fieldLink "TextReplicaModel" (26 : Nat) "TextReplicaModel" "knows" "[Z") ∈ lw_all := lw_g (lw_at lw_m0 145 rfl) rfl
theorem q162 : (Jvm.Cond.fieldLink "TextReplicaModel" (47 : Nat) "TextReplicaModel" "shown" "I") ∈ lw_all := lw_g (lw_at lw_m0 146 rfl) rfl
theorem q163 : (Jvm.Cond.fieldLink "TextReplicaModel" (29 : Nat) "TextReplicaModel" "text" "[I") ∈ lw_all := lw_g (lw_at lw_m0 147 rfl) rfl
theorem q164 : (Jvm.Cond.lays "TextReplicaModel" "TextReplicaModel" "made" "I") ∈ lw_all := lw_g (lw_at lw_m0 148 rfl) rfl
theorem q165 : (Jvm.Cond.soleField "TextReplicaModel" "made") ∈ lw_all := lw_g (lw_at lw_m0 149 rfl) rfl
theorem q166 : (Jvm.Cond.laysFinal "TextReplicaModel" "TextReplicaModel" "origin" "[I") ∈ lw_all := lw_g (lw_at lw_m0 150 rfl) rfl
theorem q167 : (Jvm.Cond.soleField "TextReplicaModel" "origin") ∈ lw_all := lw_g (lw_at lw_m0 151 rfl) rfl
theorem q168 : (Jvm.Cond.laysFinal "TextReplicaModel" "TextReplicaModel" "isInsert" "[Z") ∈ lw_all := lw_g (lw_at lw_m0 152 rfl) rfl
theorem q169 : (Jvm.Cond.soleField "TextReplicaModel" "isInsert") ∈ lw_all := lw_g (lw_at lw_m0 153 rfl) rfl
theorem q170 : (Jvm.Cond.laysFinal "TextReplicaModel" "TextReplicaModel" "letters" "[I") ∈ lw_all := lw_g (lw_at lw_m0 154 rfl) rfl
theorem q171 : (Jvm.Cond.soleField "TextReplicaModel" "letters") ∈ lw_all := lw_g (lw_at lw_m0 155 rfl) rfl
theorem q172 : (Jvm.Cond.laysFinal "TextReplicaModel" "TextReplicaModel" "target" "[I") ∈ lw_all := lw_g (lw_at lw_m0 156 rfl) rfl
theorem q173 : (Jvm.Cond.soleField "TextReplicaModel" "target") ∈ lw_all := lw_g (lw_at lw_m0 157 rfl) rfl
theorem q174 : (Jvm.Cond.laysFinal "TextReplicaModel" "TextReplicaModel" "stamp" "[I") ∈ lw_all := lw_g (lw_at lw_m0 158 rfl) rfl
theorem q175 : (Jvm.Cond.soleField "TextReplicaModel" "stamp") ∈ lw_all := lw_g (lw_at lw_m0 159 rfl) rfl
theorem q176 : (Jvm.Cond.laysFinal "TextReplicaModel" "TextReplicaModel" "knows" "[Z") ∈ lw_all := lw_g (lw_at lw_m0 160 rfl) rfl
theorem q177 : (Jvm.Cond.soleField "TextReplicaModel" "knows") ∈ lw_all := lw_g (lw_at lw_m0 161 rfl) rfl
theorem q178 : (Jvm.Cond.lays "TextReplicaModel" "TextReplicaModel" "shown" "I") ∈ lw_all := lw_g (lw_at lw_m0 162 rfl) rfl
theorem q179 : (Jvm.Cond.soleField "TextReplicaModel" "shown") ∈ lw_all := lw_g (lw_at lw_m0 163 rfl) rfl
theorem q180 : (Jvm.Cond.laysFinal "TextReplicaModel" "TextReplicaModel" "text" "[I") ∈ lw_all := lw_g (lw_at lw_m0 164 rfl) rfl
theorem q181 : (Jvm.Cond.soleField "TextReplicaModel" "text") ∈ lw_all := lw_g (lw_at lw_m0 165 rfl) rfl
theorem q182 : (Jvm.Cond.superclass "TextReplicaModel" "java/lang/Object") ∈ lw_all := lw_g (lw_at lw_m0 166 rfl) rfl
theorem q184 : (Jvm.Cond.instanceMethod ({ cls := "TextReplicaModel", name := "insert", desc := "(III)I" } : Jvm.MethodName)) ∈ lw_all := lw_g (lw_at lw_m0 168 rfl) rfl
theorem q185 : (Jvm.Cond.selects "TextReplicaModel" ({ cls := "TextReplicaModel", name := "insert", desc := "(III)I" } : Jvm.MethodName) ({ cls := "TextReplicaModel", name := "insert", desc := "(III)I" } : Jvm.MethodName)) ∈ lw_all := lw_g (lw_at lw_m0 169 rfl) rfl
theorem q186 : (Jvm.Cond.code ({ cls := "TextReplicaModel", name := "insert", desc := "(III)I" } : Jvm.MethodName) prog_3_method_11_code (5 : Nat) (Option.some Jvm.ClassFile.FieldType.int)) ∈ lw_all := lw_g (lw_at lw_m0 170 rfl) rfl
theorem q187 : (Jvm.Cond.methodLink "TextReplicaModel" (64 : Nat) ({ cls := "TextReplicaModel", name := "bad", desc := "(I)Z" } : Jvm.MethodName)) ∈ lw_all := lw_g (lw_at lw_m0 171 rfl) rfl
theorem q188 : (Jvm.Cond.static ({ cls := "TextReplicaModel", name := "bad", desc := "(I)Z" } : Jvm.MethodName)) ∈ lw_all := lw_g (lw_at lw_m0 172 rfl) rfl
theorem q189 : (Jvm.Cond.code ({ cls := "TextReplicaModel", name := "bad", desc := "(I)Z" } : Jvm.MethodName) prog_3_method_2_code (1 : Nat) (Option.some Jvm.ClassFile.FieldType.boolean)) ∈ lw_all := lw_g (lw_at lw_m0 173 rfl) rfl
theorem q190 : (Jvm.Cond.methodLink "TextReplicaModel" (68 : Nat) ({ cls := "TextReplicaModel", name := "lay", desc := "(I)V" } : Jvm.MethodName)) ∈ lw_all := lw_g (lw_at lw_m0 174 rfl) rfl
theorem q191 : (Jvm.Cond.privateMethod ({ cls := "TextReplicaModel", name := "lay", desc := "(I)V" } : Jvm.MethodName)) ∈ lw_tbl := lw_at lw_m0 175 rfl
theorem q192 : (Jvm.Cond.instanceMethod ({ cls := "TextReplicaModel", name := "lay", desc := "(I)V" } : Jvm.MethodName)) ∈ lw_all := lw_g (lw_at lw_m0 176 rfl) rfl
theorem q193 : (Jvm.Cond.code ({ cls := "TextReplicaModel", name := "lay", desc := "(I)V" } : Jvm.MethodName) prog_3_method_8_code (4 : Nat) (Option.none : Option Jvm.ClassFile.FieldType)) ∈ lw_all := lw_g (lw_at lw_m0 177 rfl) rfl
theorem q194 : (Jvm.Cond.methodLink "TextReplicaModel" (43 : Nat) ({ cls := "TextReplicaModel", name := "following", desc := "(III)I" } : Jvm.MethodName)) ∈ lw_all := lw_g (lw_at lw_m0 178 rfl) rfl
theorem q195 : (Jvm.Cond.privateMethod ({ cls := "TextReplicaModel", name := "following", desc := "(III)I" } : Jvm.MethodName)) ∈ lw_tbl := lw_at lw_m0 179 rfl
theorem q196 : (Jvm.Cond.instanceMethod ({ cls := "TextReplicaModel", name := "following", desc := "(III)I" } : Jvm.MethodName)) ∈ lw_all := lw_g (lw_at lw_m0 180 rfl) rfl
theorem q197 : (Jvm.Cond.code ({ cls := "TextReplicaModel", name := "following", desc := "(III)I" } : Jvm.MethodName) prog_3_method_5_code (7 : Nat) (Option.some Jvm.ClassFile.FieldType.int)) ∈ lw_all := lw_g (lw_at lw_m0 181 rfl) rfl
theorem q198 : (Jvm.Cond.methodLink "TextReplicaModel" (36 : Nat) ({ cls := "TextReplicaModel", name := "inRow", desc := "(II)Z" } : Jvm.MethodName)) ∈ lw_all := lw_g (lw_at lw_m0 182 rfl) rfl
theorem q199 : (Jvm.Cond.privateMethod ({ cls := "TextReplicaModel", name := "inRow", desc := "(II)Z" } : Jvm.MethodName)) ∈ lw_tbl := lw_at lw_m0 183 rfl
theorem q200 : (Jvm.Cond.instanceMethod ({ cls := "TextReplicaModel", name := "inRow", desc := "(II)Z" } : Jvm.MethodName)) ∈ lw_all := lw_g (lw_at lw_m0 184 rfl) rfl
theorem q201 : (Jvm.Cond.code ({ cls := "TextReplicaModel", name := "inRow", desc := "(II)Z" } : Jvm.MethodName) prog_3_method_3_code (3 : Nat) (Option.some Jvm.ClassFile.FieldType.boolean)) ∈ lw_all := lw_g (lw_at lw_m0 185 rfl) rfl
theorem q202 : (Jvm.Cond.methodLink "TextReplicaModel" (40 : Nat) ({ cls := "TextReplicaModel", name := "greater", desc := "(II)Z" } : Jvm.MethodName)) ∈ lw_all := lw_g (lw_at lw_m0 186 rfl) rfl
theorem q203 : (Jvm.Cond.privateMethod ({ cls := "TextReplicaModel", name := "greater", desc := "(II)Z" } : Jvm.MethodName)) ∈ lw_tbl := lw_at lw_m0 187 rfl
theorem q204 : (Jvm.Cond.instanceMethod ({ cls := "TextReplicaModel", name := "greater", desc := "(II)Z" } : Jvm.MethodName)) ∈ lw_all := lw_g (lw_at lw_m0 188 rfl) rfl
theorem q205 : (Jvm.Cond.code ({ cls := "TextReplicaModel", name := "greater", desc := "(II)Z" } : Jvm.MethodName) prog_3_method_4_code (3 : Nat) (Option.some Jvm.ClassFile.FieldType.boolean)) ∈ lw_all := lw_g (lw_at lw_m0 189 rfl) rfl
theorem q206 : (Jvm.Cond.methodLink "TextReplicaModel" (50 : Nat) ({ cls := "TextReplicaModel", name := "gone", desc := "(II)Z" } : Jvm.MethodName)) ∈ lw_all := lw_g (lw_at lw_m0 190 rfl) rfl
theorem q207 : (Jvm.Cond.privateMethod ({ cls := "TextReplicaModel", name := "gone", desc := "(II)Z" } : Jvm.MethodName)) ∈ lw_tbl := lw_at lw_m0 191 rfl
theorem q208 : (Jvm.Cond.instanceMethod ({ cls := "TextReplicaModel", name := "gone", desc := "(II)Z" } : Jvm.MethodName)) ∈ lw_all := lw_g (lw_at lw_m0 192 rfl) rfl
theorem q209 : (Jvm.Cond.code ({ cls := "TextReplicaModel", name := "gone", desc := "(II)Z" } : Jvm.MethodName) prog_3_method_6_code (4 : Nat) (Option.some Jvm.ClassFile.FieldType.boolean)) ∈ lw_all := lw_g (lw_at lw_m0 193 rfl) rfl
theorem q210 : (Jvm.Cond.methodLink "TextReplicaModel" (53 : Nat) ({ cls := "TextReplicaModel", name := "next", desc := "(II)I" } : Jvm.MethodName)) ∈ lw_all := lw_g (lw_at lw_m0 194 rfl) rfl
theorem q211 : (Jvm.Cond.privateMethod ({ cls := "TextReplicaModel", name := "next", desc := "(II)I" } : Jvm.MethodName)) ∈ lw_tbl := lw_at lw_m0 195 rfl
theorem q212 : (Jvm.Cond.instanceMethod ({ cls := "TextReplicaModel", name := "next", desc := "(II)I" } : Jvm.MethodName)) ∈ lw_all := lw_g (lw_at lw_m0 196 rfl) rfl
theorem q213 : (Jvm.Cond.code ({ cls := "TextReplicaModel", name := "next", desc := "(II)I" } : Jvm.MethodName) prog_3_method_7_code (7 : Nat) (Option.some Jvm.ClassFile.FieldType.int)) ∈ lw_all := lw_g (lw_at lw_m0 197 rfl) rfl
theorem q214 : (Jvm.Cond.methodLink "TextReplicaModel" (72 : Nat) ({ cls := "TextReplicaModel", name := "make", desc := "(IZII)I" } : Jvm.MethodName)) ∈ lw_all := lw_g (lw_at lw_m0 198 rfl) rfl
theorem q215 : (Jvm.Cond.privateMethod ({ cls := "TextReplicaModel", name := "make", desc := "(IZII)I" } : Jvm.MethodName)) ∈ lw_tbl := lw_at lw_m0 199 rfl
theorem q216 : (Jvm.Cond.instanceMethod ({ cls := "TextReplicaModel", name := "make", desc := "(IZII)I" } : Jvm.MethodName)) ∈ lw_all := lw_g (lw_at lw_m0 200 rfl) rfl
theorem q217 : (Jvm.Cond.code ({ cls := "TextReplicaModel", name := "make", desc := "(IZII)I" } : Jvm.MethodName) prog_3_method_10_code (5 : Nat) (Option.some Jvm.ClassFile.FieldType.int)) ∈ lw_all := lw_g (lw_at lw_m0 201 rfl) rfl
theorem q218 : (Jvm.Cond.methodLink "TextReplicaModel" (57 : Nat) ({ cls := "TextReplicaModel", name := "greatest", desc := "(I)I" } : Jvm.MethodName)) ∈ lw_all := lw_g (lw_at lw_m0 202 rfl) rfl
theorem q219 : (Jvm.Cond.privateMethod ({ cls := "TextReplicaModel", name := "greatest", desc := "(I)I" } : Jvm.MethodName)) ∈ lw_tbl := lw_at lw_m0 203 rfl
theorem q220 : (Jvm.Cond.instanceMethod ({ cls := "TextReplicaModel", name := "greatest", desc := "(I)I" } : Jvm.MethodName)) ∈ lw_all := lw_g (lw_at lw_m0 204 rfl) rfl
theorem q221 : (Jvm.Cond.code ({ cls := "TextReplicaModel", name := "greatest", desc := "(I)I" } : Jvm.MethodName) prog_3_method_9_code (4 : Nat) (Option.some Jvm.ClassFile.FieldType.int)) ∈ lw_all := lw_g (lw_at lw_m0 205 rfl) rfl
theorem q222 : (Jvm.Cond.methodLink "TextReplicaModel" (61 : Nat) ({ cls := "TextReplicaModel", name := "length", desc := "(I)I" } : Jvm.MethodName)) ∈ lw_all := lw_g (lw_at lw_m0 206 rfl) rfl
theorem q223 : (Jvm.Cond.instanceMethod ({ cls := "TextReplicaModel", name := "length", desc := "(I)I" } : Jvm.MethodName)) ∈ lw_all := lw_g (lw_at lw_m0 207 rfl) rfl
theorem q224 : (Jvm.Cond.selects "TextReplicaModel" ({ cls := "TextReplicaModel", name := "length", desc := "(I)I" } : Jvm.MethodName) ({ cls := "TextReplicaModel", name := "length", desc := "(I)I" } : Jvm.MethodName)) ∈ lw_all := lw_g (lw_at lw_m0 208 rfl) rfl
theorem q225 : (Jvm.Cond.code ({ cls := "TextReplicaModel", name := "length", desc := "(I)I" } : Jvm.MethodName) prog_3_method_15_code (2 : Nat) (Option.some Jvm.ClassFile.FieldType.int)) ∈ lw_all := lw_g (lw_at lw_m0 209 rfl) rfl
theorem q227 : (Jvm.Cond.instanceMethod ({ cls := "TextReplicaModel", name := "delete", desc := "(II)I" } : Jvm.MethodName)) ∈ lw_all := lw_g (lw_at lw_m0 211 rfl) rfl
theorem q228 : (Jvm.Cond.selects "TextReplicaModel" ({ cls := "TextReplicaModel", name := "delete", desc := "(II)I" } : Jvm.MethodName) ({ cls := "TextReplicaModel", name := "delete", desc := "(II)I" } : Jvm.MethodName)) ∈ lw_all := lw_g (lw_at lw_m0 212 rfl) rfl
theorem q229 : (Jvm.Cond.code ({ cls := "TextReplicaModel", name := "delete", desc := "(II)I" } : Jvm.MethodName) prog_3_method_12_code (3 : Nat) (Option.some Jvm.ClassFile.FieldType.int)) ∈ lw_all := lw_g (lw_at lw_m0 213 rfl) rfl
theorem q231 : (Jvm.Cond.instanceMethod ({ cls := "TextReplicaModel", name := "deliver", desc := "(II)I" } : Jvm.MethodName)) ∈ lw_all := lw_g (lw_at lw_m0 215 rfl) rfl
theorem q232 : (Jvm.Cond.selects "TextReplicaModel" ({ cls := "TextReplicaModel", name := "deliver", desc := "(II)I" } : Jvm.MethodName) ({ cls := "TextReplicaModel", name := "deliver", desc := "(II)I" } : Jvm.MethodName)) ∈ lw_all := lw_g (lw_at lw_m0 216 rfl) rfl
theorem q233 : (Jvm.Cond.code ({ cls := "TextReplicaModel", name := "deliver", desc := "(II)I" } : Jvm.MethodName) prog_3_method_13_code (4 : Nat) (Option.some Jvm.ClassFile.FieldType.int)) ∈ lw_all := lw_g (lw_at lw_m0 217 rfl) rfl
theorem q235 : (Jvm.Cond.instanceMethod ({ cls := "TextReplicaModel", name := "sync", desc := "(II)I" } : Jvm.MethodName)) ∈ lw_all := lw_g (lw_at lw_m0 219 rfl) rfl
theorem q236 : (Jvm.Cond.selects "TextReplicaModel" ({ cls := "TextReplicaModel", name := "sync", desc := "(II)I" } : Jvm.MethodName) ({ cls := "TextReplicaModel", name := "sync", desc := "(II)I" } : Jvm.MethodName)) ∈ lw_all := lw_g (lw_at lw_m0 220 rfl) rfl
theorem q237 : (Jvm.Cond.code ({ cls := "TextReplicaModel", name := "sync", desc := "(II)I" } : Jvm.MethodName) prog_3_method_14_code (4 : Nat) (Option.some Jvm.ClassFile.FieldType.int)) ∈ lw_all := lw_g (lw_at lw_m0 221 rfl) rfl
theorem q240 : (Jvm.Cond.instanceMethod ({ cls := "TextReplicaModel", name := "letter", desc := "(II)I" } : Jvm.MethodName)) ∈ lw_all := lw_g (lw_at lw_m0 224 rfl) rfl
theorem q241 : (Jvm.Cond.selects "TextReplicaModel" ({ cls := "TextReplicaModel", name := "letter", desc := "(II)I" } : Jvm.MethodName) ({ cls := "TextReplicaModel", name := "letter", desc := "(II)I" } : Jvm.MethodName)) ∈ lw_all := lw_g (lw_at lw_m0 225 rfl) rfl
theorem q242 : (Jvm.Cond.code ({ cls := "TextReplicaModel", name := "letter", desc := "(II)I" } : Jvm.MethodName) prog_3_method_16_code (3 : Nat) (Option.some Jvm.ClassFile.FieldType.int)) ∈ lw_all := lw_g (lw_at lw_m0 226 rfl) rfl
theorem q244 : (Jvm.Cond.instanceMethod ({ cls := "TextReplicaModel", name := "row", desc := "(I)I" } : Jvm.MethodName)) ∈ lw_all := lw_g (lw_at lw_m0 228 rfl) rfl
theorem q245 : (Jvm.Cond.selects "TextReplicaModel" ({ cls := "TextReplicaModel", name := "row", desc := "(I)I" } : Jvm.MethodName) ({ cls := "TextReplicaModel", name := "row", desc := "(I)I" } : Jvm.MethodName)) ∈ lw_all := lw_g (lw_at lw_m0 229 rfl) rfl
theorem q246 : (Jvm.Cond.code ({ cls := "TextReplicaModel", name := "row", desc := "(I)I" } : Jvm.MethodName) prog_3_method_17_code (4 : Nat) (Option.some Jvm.ClassFile.FieldType.int)) ∈ lw_all := lw_g (lw_at lw_m0 230 rfl) rfl
theorem q248 : (Jvm.Cond.instanceMethod ({ cls := "TextReplicaModel", name := "known", desc := "(II)I" } : Jvm.MethodName)) ∈ lw_all := lw_g (lw_at lw_m0 232 rfl) rfl
theorem q249 : (Jvm.Cond.selects "TextReplicaModel" ({ cls := "TextReplicaModel", name := "known", desc := "(II)I" } : Jvm.MethodName) ({ cls := "TextReplicaModel", name := "known", desc := "(II)I" } : Jvm.MethodName)) ∈ lw_all := lw_g (lw_at lw_m0 233 rfl) rfl
theorem q250 : (Jvm.Cond.code ({ cls := "TextReplicaModel", name := "known", desc := "(II)I" } : Jvm.MethodName) prog_3_method_18_code (5 : Nat) (Option.some Jvm.ClassFile.FieldType.int)) ∈ lw_all := lw_g (lw_at lw_m0 234 rfl) rfl
theorem q252 : (Jvm.Cond.instanceMethod ({ cls := "TextReplicaModel", name := "alike", desc := "(II)I" } : Jvm.MethodName)) ∈ lw_all := lw_g (lw_at lw_m0 236 rfl) rfl
theorem q253 : (Jvm.Cond.selects "TextReplicaModel" ({ cls := "TextReplicaModel", name := "alike", desc := "(II)I" } : Jvm.MethodName) ({ cls := "TextReplicaModel", name := "alike", desc := "(II)I" } : Jvm.MethodName)) ∈ lw_all := lw_g (lw_at lw_m0 237 rfl) rfl
theorem q254 : (Jvm.Cond.code ({ cls := "TextReplicaModel", name := "alike", desc := "(II)I" } : Jvm.MethodName) prog_3_method_19_code (5 : Nat) (Option.some Jvm.ClassFile.FieldType.int)) ∈ lw_all := lw_g (lw_at lw_m0 238 rfl) rfl
theorem q255 : (Jvm.Cond.methodLink "TextReplicaModel" (76 : Nat) ({ cls := "TextReplicaModel", name := "letter", desc := "(II)I" } : Jvm.MethodName)) ∈ lw_all := lw_g (lw_at lw_m0 239 rfl) rfl
theorem in_X1 : ∀ w ∈ wsX10, w ∈ lw_all := lw_in wsX10 [164, 166, 168, 170, 172, 174, 176, 178, 180] (by decide +kernel) (by decide +kernel)
end
section
/-! the law's own entry -/
set_option maxRecDepth 100000
abbrev cL_law : ByteArray := code
theorem dL_law_0 : decode cL_law 0 = .ok (.new 7, 3) := by decide +kernel
theorem dL_law_3 : decode cL_law 3 = .ok (.dup, 1) := by decide +kernel
theorem dL_law_4 : decode cL_law 4 = .ok (.invokespecial 9, 3) := by decide +kernel
theorem dL_law_7 : decode cL_law 7 = .ok (.astore_n 1, 1) := by decide +kernel
theorem dL_law_8 : decode cL_law 8 = .ok (.new 10, 3) := by decide +kernel
theorem dL_law_11 : decode cL_law 11 = .ok (.dup, 1) := by decide +kernel
theorem dL_law_12 : decode cL_law 12 = .ok (.invokespecial 12, 3) := by decide +kernel
theorem dL_law_15 : decode cL_law 15 = .ok (.astore_n 2, 1) := by decide +kernel
theorem dL_law_16 : decode cL_law 16 = .ok (.iconst 0, 1) := by decide +kernel
theorem dL_law_17 : decode cL_law 17 = .ok (.istore_n 3, 1) := by decide +kernel
theorem dL_law_18 : decode cL_law 18 = .ok (.iload_n 3, 1) := by decide +kernel
theorem dL_law_19 : decode cL_law 19 = .ok (.aload_n 0, 1) := by decide +kernel
theorem dL_law_20 : decode cL_law 20 = .ok (.arraylength, 1) := by decide +kernel
theorem dL_law_21 : decode cL_law 21 = .ok (.iconst 4, 1) := by decide +kernel
theorem dL_law_22 : decode cL_law 22 = .ok (.isub, 1) := by decide +kernel
theorem dL_law_23 : decode cL_law 23 = .ok (.if_icmp .gt 354, 3) := by decide +kernel
theorem dL_law_26 : decode cL_law 26 = .ok (.aload_n 0, 1) := by decide +kernel
theorem dL_law_27 : decode cL_law 27 = .ok (.iload_n 3, 1) := by decide +kernel
theorem dL_law_28 : decode cL_law 28 = .ok (.iaload, 1) := by decide +kernel
theorem dL_law_29 : decode cL_law 29 = .ok (.bipush 15, 2) := by decide +kernel
theorem dL_law_31 : decode cL_law 31 = .ok (.iand, 1) := by decide +kernel
theorem dL_law_32 : decode cL_law 32 = .ok (.tableswitch 339 0 8 #[52, 95, 128, 161, 194, 217, 250, 273, 306], 52) := by decide +kernel
theorem dL_law_84 : decode cL_law 84 = .ok (.aload_n 1, 1) := by decide +kernel
theorem dL_law_85 : decode cL_law 85 = .ok (.aload_n 0, 1) := by decide +kernel
theorem dL_law_86 : decode cL_law 86 = .ok (.iload_n 3, 1) := by decide +kernel
theorem dL_law_87 : decode cL_law 87 = .ok (.iconst 1, 1) := by decide +kernel
theorem dL_law_88 : decode cL_law 88 = .ok (.iadd, 1) := by decide +kernel
theorem dL_law_89 : decode cL_law 89 = .ok (.iaload, 1) := by decide +kernel
theorem dL_law_90 : decode cL_law 90 = .ok (.aload_n 0, 1) := by decide +kernel
theorem dL_law_91 : decode cL_law 91 = .ok (.iload_n 3, 1) := by decide +kernel
theorem dL_law_92 : decode cL_law 92 = .ok (.iconst 2, 1) := by decide +kernel
theorem dL_law_93 : decode cL_law 93 = .ok (.iadd, 1) := by decide +kernel
theorem dL_law_94 : decode cL_law 94 = .ok (.iaload, 1) := by decide +kernel
theorem dL_law_95 : decode cL_law 95 = .ok (.aload_n 0, 1) := by decide +kernel
theorem dL_law_96 : decode cL_law 96 = .ok (.iload_n 3, 1) := by decide +kernel
theorem dL_law_97 : decode cL_law 97 = .ok (.iconst 3, 1) := by decide +kernel
theorem dL_law_98 : decode cL_law 98 = .ok (.iadd, 1) := by decide +kernel
theorem dL_law_99 : decode cL_law 99 = .ok (.iaload, 1) := by decide +kernel
theorem dL_law_100 : decode cL_law 100 = .ok (.invokevirtual 13, 3) := by decide +kernel
theorem dL_law_103 : decode cL_law 103 = .ok (.aload_n 2, 1) := by decide +kernel
theorem dL_law_104 : decode cL_law 104 = .ok (.aload_n 0, 1) := by decide +kernel
theorem dL_law_105 : decode cL_law 105 = .ok (.iload_n 3, 1) := by decide +kernel
theorem dL_law_106 : decode cL_law 106 = .ok (.iconst 1, 1) := by decide +kernel
theorem dL_law_107 : decode cL_law 107 = .ok (.iadd, 1) := by decide +kernel
theorem dL_law_108 : decode cL_law 108 = .ok (.iaload, 1) := by decide +kernel
theorem dL_law_109 : decode cL_law 109 = .ok (.aload_n 0, 1) := by decide +kernel
theorem dL_law_110 : decode cL_law 110 = .ok (.iload_n 3, 1) := by decide +kernel
theorem dL_law_111 : decode cL_law 111 = .ok (.iconst 2, 1) := by decide +kernel
theorem dL_law_112 : decode cL_law 112 = .ok (.iadd, 1) := by decide +kernel
theorem dL_law_113 : decode cL_law 113 = .ok (.iaload, 1) := by decide +kernel
theorem dL_law_114 : decode cL_law 114 = .ok (.aload_n 0, 1) := by decide +kernel
theorem dL_law_115 : decode cL_law 115 = .ok (.iload_n 3, 1) := by decide +kernel
theorem dL_law_116 : decode cL_law 116 = .ok (.iconst 3, 1) := by decide +kernel
theorem dL_law_117 : decode cL_law 117 = .ok (.iadd, 1) := by decide +kernel
theorem dL_law_118 : decode cL_law 118 = .ok (.iaload, 1) := by decide +kernel
theorem dL_law_119 : decode cL_law 119 = .ok (.invokevirtual 17, 3) := by decide +kernel
theorem dL_law_122 : decode cL_law 122 = .ok (.if_icmp .eq 249, 3) := by decide +kernel
theorem dL_law_125 : decode cL_law 125 = .ok (.iconst 0, 1) := by decide +kernel
theorem dL_law_126 : decode cL_law 126 = .ok (.ireturn, 1) := by decide +kernel
theorem dL_law_127 : decode cL_law 127 = .ok (.aload_n 1, 1) := by decide +kernel
theorem dL_law_128 : decode cL_law 128 = .ok (.aload_n 0, 1) := by decide +kernel
theorem dL_law_129 : decode cL_law 129 = .ok (.iload_n 3, 1) := by decide +kernel
theorem dL_law_130 : decode cL_law 130 = .ok (.iconst 1, 1) := by decide +kernel
theorem dL_law_131 : decode cL_law 131 = .ok (.iadd, 1) := by decide +kernel
theorem dL_law_132 : decode cL_law 132 = .ok (.iaload, 1) := by decide +kernel
theorem dL_law_133 : decode cL_law 133 = .ok (.aload_n 0, 1) := by decide +kernel
theorem dL_law_134 : decode cL_law 134 = .ok (.iload_n 3, 1) := by decide +kernel
theorem dL_law_135 : decode cL_law 135 = .ok (.iconst 2, 1) := by decide +kernel
theorem dL_law_136 : decode cL_law 136 = .ok (.iadd, 1) := by decide +kernel
theorem dL_law_137 : decode cL_law 137 = .ok (.iaload, 1) := by decide +kernel
theorem dL_law_138 : decode cL_law 138 = .ok (.invokevirtual 18, 3) := by decide +kernel
theorem dL_law_141 : decode cL_law 141 = .ok (.aload_n 2, 1) := by decide +kernel
theorem dL_law_142 : decode cL_law 142 = .ok (.aload_n 0, 1) := by decide +kernel
theorem dL_law_143 : decode cL_law 143 = .ok (.iload_n 3, 1) := by decide +kernel
theorem dL_law_144 : decode cL_law 144 = .ok (.iconst 1, 1) := by decide +kernel
theorem dL_law_145 : decode cL_law 145 = .ok (.iadd, 1) := by decide +kernel
theorem dL_law_146 : decode cL_law 146 = .ok (.iaload, 1) := by decide +kernel
theorem dL_law_147 : decode cL_law 147 = .ok (.aload_n 0, 1) := by decide +kernel
theorem dL_law_148 : decode cL_law 148 = .ok (.iload_n 3, 1) := by decide +kernel
theorem dL_law_149 : decode cL_law 149 = .ok (.iconst 2, 1) := by decide +kernel
theorem dL_law_150 : decode cL_law 150 = .ok (.iadd, 1) := by decide +kernel
theorem dL_law_151 : decode cL_law 151 = .ok (.iaload, 1) := by decide +kernel
theorem dL_law_152 : decode cL_law 152 = .ok (.invokevirtual 22, 3) := by decide +kernel
theorem dL_law_155 : decode cL_law 155 = .ok (.if_icmp .eq 216, 3) := by decide +kernel
theorem dL_law_158 : decode cL_law 158 = .ok (.iconst 0, 1) := by decide +kernel
theorem dL_law_159 : decode cL_law 159 = .ok (.ireturn, 1) := by decide +kernel
theorem dL_law_160 : decode cL_law 160 = .ok (.aload_n 1, 1) := by decide +kernel
theorem dL_law_161 : decode cL_law 161 = .ok (.aload_n 0, 1) := by decide +kernel
theorem dL_law_162 : decode cL_law 162 = .ok (.iload_n 3, 1) := by decide +kernel
theorem dL_law_163 : decode cL_law 163 = .ok (.iconst 1, 1) := by decide +kernel
theorem dL_law_164 : decode cL_law 164 = .ok (.iadd, 1) := by decide +kernel
theorem dL_law_165 : decode cL_law 165 = .ok (.iaload, 1) := by decide +kernel
theorem dL_law_166 : decode cL_law 166 = .ok (.aload_n 0, 1) := by decide +kernel
theorem dL_law_167 : decode cL_law 167 = .ok (.iload_n 3, 1) := by decide +kernel
theorem dL_law_168 : decode cL_law 168 = .ok (.iconst 2, 1) := by decide +kernel
theorem dL_law_169 : decode cL_law 169 = .ok (.iadd, 1) := by decide +kernel
theorem dL_law_170 : decode cL_law 170 = .ok (.iaload, 1) := by decide +kernel
theorem dL_law_171 : decode cL_law 171 = .ok (.invokevirtual 23, 3) := by decide +kernel
theorem dL_law_174 : decode cL_law 174 = .ok (.aload_n 2, 1) := by decide +kernel
theorem dL_law_175 : decode cL_law 175 = .ok (.aload_n 0, 1) := by decide +kernel
theorem dL_law_176 : decode cL_law 176 = .ok (.iload_n 3, 1) := by decide +kernel
theorem dL_law_177 : decode cL_law 177 = .ok (.iconst 1, 1) := by decide +kernel
theorem dL_law_178 : decode cL_law 178 = .ok (.iadd, 1) := by decide +kernel
theorem dL_law_179 : decode cL_law 179 = .ok (.iaload, 1) := by decide +kernel
theorem dL_law_180 : decode cL_law 180 = .ok (.aload_n 0, 1) := by decide +kernel
theorem dL_law_181 : decode cL_law 181 = .ok (.iload_n 3, 1) := by decide +kernel
theorem dL_law_182 : decode cL_law 182 = .ok (.iconst 2, 1) := by decide +kernel
theorem dL_law_183 : decode cL_law 183 = .ok (.iadd, 1) := by decide +kernel
theorem dL_law_184 : decode cL_law 184 = .ok (.iaload, 1) := by decide +kernel
theorem dL_law_185 : decode cL_law 185 = .ok (.invokevirtual 26, 3) := by decide +kernel
theorem dL_law_188 : decode cL_law 188 = .ok (.if_icmp .eq 183, 3) := by decide +kernel
theorem dL_law_191 : decode cL_law 191 = .ok (.iconst 0, 1) := by decide +kernel
theorem dL_law_192 : decode cL_law 192 = .ok (.ireturn, 1) := by decide +kernel
theorem dL_law_193 : decode cL_law 193 = .ok (.aload_n 1, 1) := by decide +kernel
theorem dL_law_194 : decode cL_law 194 = .ok (.aload_n 0, 1) := by decide +kernel
theorem dL_law_195 : decode cL_law 195 = .ok (.iload_n 3, 1) := by decide +kernel
theorem dL_law_196 : decode cL_law 196 = .ok (.iconst 1, 1) := by decide +kernel
theorem dL_law_197 : decode cL_law 197 = .ok (.iadd, 1) := by decide +kernel
theorem dL_law_198 : decode cL_law 198 = .ok (.iaload, 1) := by decide +kernel
theorem dL_law_199 : decode cL_law 199 = .ok (.aload_n 0, 1) := by decide +kernel
theorem dL_law_200 : decode cL_law 200 = .ok (.iload_n 3, 1) := by decide +kernel
theorem dL_law_201 : decode cL_law 201 = .ok (.iconst 2, 1) := by decide +kernel
theorem dL_law_202 : decode cL_law 202 = .ok (.iadd, 1) := by decide +kernel
theorem dL_law_203 : decode cL_law 203 = .ok (.iaload, 1) := by decide +kernel
theorem dL_law_204 : decode cL_law 204 = .ok (.invokevirtual 27, 3) := by decide +kernel
theorem dL_law_207 : decode cL_law 207 = .ok (.aload_n 2, 1) := by decide +kernel
theorem dL_law_208 : decode cL_law 208 = .ok (.aload_n 0, 1) := by decide +kernel
theorem dL_law_209 : decode cL_law 209 = .ok (.iload_n 3, 1) := by decide +kernel
theorem dL_law_210 : decode cL_law 210 = .ok (.iconst 1, 1) := by decide +kernel
theorem dL_law_211 : decode cL_law 211 = .ok (.iadd, 1) := by decide +kernel
theorem dL_law_212 : decode cL_law 212 = .ok (.iaload, 1) := by decide +kernel
theorem dL_law_213 : decode cL_law 213 = .ok (.aload_n 0, 1) := by decide +kernel
theorem dL_law_214 : decode cL_law 214 = .ok (.iload_n 3, 1) := by decide +kernel
theorem dL_law_215 : decode cL_law 215 = .ok (.iconst 2, 1) := by decide +kernel
theorem dL_law_216 : decode cL_law 216 = .ok (.iadd, 1) := by decide +kernel
theorem dL_law_217 : decode cL_law 217 = .ok (.iaload, 1) := by decide +kernel
theorem dL_law_218 : decode cL_law 218 = .ok (.invokevirtual 30, 3) := by decide +kernel
theorem dL_law_221 : decode cL_law 221 = .ok (.if_icmp .eq 150, 3) := by decide +kernel
theorem dL_law_224 : decode cL_law 224 = .ok (.iconst 0, 1) := by decide +kernel
theorem dL_law_225 : decode cL_law 225 = .ok (.ireturn, 1) := by decide +kernel
theorem dL_law_226 : decode cL_law 226 = .ok (.aload_n 1, 1) := by decide +kernel
theorem dL_law_227 : decode cL_law 227 = .ok (.aload_n 0, 1) := by decide +kernel
theorem dL_law_228 : decode cL_law 228 = .ok (.iload_n 3, 1) := by decide +kernel
theorem dL_law_229 : decode cL_law 229 = .ok (.iconst 1, 1) := by decide +kernel
theorem dL_law_230 : decode cL_law 230 = .ok (.iadd, 1) := by decide +kernel
theorem dL_law_231 : decode cL_law 231 = .ok (.iaload, 1) := by decide +kernel
theorem dL_law_232 : decode cL_law 232 = .ok (.invokevirtual 31, 3) := by decide +kernel
theorem dL_law_235 : decode cL_law 235 = .ok (.aload_n 2, 1) := by decide +kernel
theorem dL_law_236 : decode cL_law 236 = .ok (.aload_n 0, 1) := by decide +kernel
theorem dL_law_237 : decode cL_law 237 = .ok (.iload_n 3, 1) := by decide +kernel
theorem dL_law_238 : decode cL_law 238 = .ok (.iconst 1, 1) := by decide +kernel
theorem dL_law_239 : decode cL_law 239 = .ok (.iadd, 1) := by decide +kernel
theorem dL_law_240 : decode cL_law 240 = .ok (.iaload, 1) := by decide +kernel
theorem dL_law_241 : decode cL_law 241 = .ok (.invokevirtual 35, 3) := by decide +kernel
theorem dL_law_244 : decode cL_law 244 = .ok (.if_icmp .eq 127, 3) := by decide +kernel
theorem dL_law_247 : decode cL_law 247 = .ok (.iconst 0, 1) := by decide +kernel
theorem dL_law_248 : decode cL_law 248 = .ok (.ireturn, 1) := by decide +kernel
theorem dL_law_249 : decode cL_law 249 = .ok (.aload_n 1, 1) := by decide +kernel
theorem dL_law_250 : decode cL_law 250 = .ok (.aload_n 0, 1) := by decide +kernel
theorem dL_law_251 : decode cL_law 251 = .ok (.iload_n 3, 1) := by decide +kernel
theorem dL_law_252 : decode cL_law 252 = .ok (.iconst 1, 1) := by decide +kernel
theorem dL_law_253 : decode cL_law 253 = .ok (.iadd, 1) := by decide +kernel
theorem dL_law_254 : decode cL_law 254 = .ok (.iaload, 1) := by decide +kernel
theorem dL_law_255 : decode cL_law 255 = .ok (.aload_n 0, 1) := by decide +kernel
theorem dL_law_256 : decode cL_law 256 = .ok (.iload_n 3, 1) := by decide +kernel
theorem dL_law_257 : decode cL_law 257 = .ok (.iconst 2, 1) := by decide +kernel
theorem dL_law_258 : decode cL_law 258 = .ok (.iadd, 1) := by decide +kernel
theorem dL_law_259 : decode cL_law 259 = .ok (.iaload, 1) := by decide +kernel
theorem dL_law_260 : decode cL_law 260 = .ok (.invokevirtual 36, 3) := by decide +kernel
theorem dL_law_263 : decode cL_law 263 = .ok (.aload_n 2, 1) := by decide +kernel
theorem dL_law_264 : decode cL_law 264 = .ok (.aload_n 0, 1) := by decide +kernel
theorem dL_law_265 : decode cL_law 265 = .ok (.iload_n 3, 1) := by decide +kernel
theorem dL_law_266 : decode cL_law 266 = .ok (.iconst 1, 1) := by decide +kernel
theorem dL_law_267 : decode cL_law 267 = .ok (.iadd, 1) := by decide +kernel
theorem dL_law_268 : decode cL_law 268 = .ok (.iaload, 1) := by decide +kernel
theorem dL_law_269 : decode cL_law 269 = .ok (.aload_n 0, 1) := by decide +kernel
theorem dL_law_270 : decode cL_law 270 = .ok (.iload_n 3, 1) := by decide +kernel
theorem dL_law_271 : decode cL_law 271 = .ok (.iconst 2, 1) := by decide +kernel
theorem dL_law_272 : decode cL_law 272 = .ok (.iadd, 1) := by decide +kernel
theorem dL_law_273 : decode cL_law 273 = .ok (.iaload, 1) := by decide +kernel
theorem dL_law_274 : decode cL_law 274 = .ok (.invokevirtual 39, 3) := by decide +kernel
theorem dL_law_277 : decode cL_law 277 = .ok (.if_icmp .eq 94, 3) := by decide +kernel
theorem dL_law_280 : decode cL_law 280 = .ok (.iconst 0, 1) := by decide +kernel
theorem dL_law_281 : decode cL_law 281 = .ok (.ireturn, 1) := by decide +kernel
theorem dL_law_282 : decode cL_law 282 = .ok (.aload_n 1, 1) := by decide +kernel
theorem dL_law_283 : decode cL_law 283 = .ok (.aload_n 0, 1) := by decide +kernel
theorem dL_law_284 : decode cL_law 284 = .ok (.iload_n 3, 1) := by decide +kernel
theorem dL_law_285 : decode cL_law 285 = .ok (.iconst 1, 1) := by decide +kernel
theorem dL_law_286 : decode cL_law 286 = .ok (.iadd, 1) := by decide +kernel
theorem dL_law_287 : decode cL_law 287 = .ok (.iaload, 1) := by decide +kernel
theorem dL_law_288 : decode cL_law 288 = .ok (.invokevirtual 40, 3) := by decide +kernel
theorem dL_law_291 : decode cL_law 291 = .ok (.aload_n 2, 1) := by decide +kernel
theorem dL_law_292 : decode cL_law 292 = .ok (.aload_n 0, 1) := by decide +kernel
theorem dL_law_293 : decode cL_law 293 = .ok (.iload_n 3, 1) := by decide +kernel
theorem dL_law_294 : decode cL_law 294 = .ok (.iconst 1, 1) := by decide +kernel
theorem dL_law_295 : decode cL_law 295 = .ok (.iadd, 1) := by decide +kernel
theorem dL_law_296 : decode cL_law 296 = .ok (.iaload, 1) := by decide +kernel
theorem dL_law_297 : decode cL_law 297 = .ok (.invokevirtual 43, 3) := by decide +kernel
theorem dL_law_300 : decode cL_law 300 = .ok (.if_icmp .eq 71, 3) := by decide +kernel
theorem dL_law_303 : decode cL_law 303 = .ok (.iconst 0, 1) := by decide +kernel
theorem dL_law_304 : decode cL_law 304 = .ok (.ireturn, 1) := by decide +kernel
theorem dL_law_305 : decode cL_law 305 = .ok (.aload_n 1, 1) := by decide +kernel
theorem dL_law_306 : decode cL_law 306 = .ok (.aload_n 0, 1) := by decide +kernel
theorem dL_law_307 : decode cL_law 307 = .ok (.iload_n 3, 1) := by decide +kernel
theorem dL_law_308 : decode cL_law 308 = .ok (.iconst 1, 1) := by decide +kernel
theorem dL_law_309 : decode cL_law 309 = .ok (.iadd, 1) := by decide +kernel
theorem dL_law_310 : decode cL_law 310 = .ok (.iaload, 1) := by decide +kernel
theorem dL_law_311 : decode cL_law 311 = .ok (.aload_n 0, 1) := by decide +kernel
theorem dL_law_312 : decode cL_law 312 = .ok (.iload_n 3, 1) := by decide +kernel
theorem dL_law_313 : decode cL_law 313 = .ok (.iconst 2, 1) := by decide +kernel
theorem dL_law_314 : decode cL_law 314 = .ok (.iadd, 1) := by decide +kernel
theorem dL_law_315 : decode cL_law 315 = .ok (.iaload, 1) := by decide +kernel
theorem dL_law_316 : decode cL_law 316 = .ok (.invokevirtual 44, 3) := by decide +kernel
theorem dL_law_319 : decode cL_law 319 = .ok (.aload_n 2, 1) := by decide +kernel
theorem dL_law_320 : decode cL_law 320 = .ok (.aload_n 0, 1) := by decide +kernel
theorem dL_law_321 : decode cL_law 321 = .ok (.iload_n 3, 1) := by decide +kernel
theorem dL_law_322 : decode cL_law 322 = .ok (.iconst 1, 1) := by decide +kernel
theorem dL_law_323 : decode cL_law 323 = .ok (.iadd, 1) := by decide +kernel
theorem dL_law_324 : decode cL_law 324 = .ok (.iaload, 1) := by decide +kernel
theorem dL_law_325 : decode cL_law 325 = .ok (.aload_n 0, 1) := by decide +kernel
theorem dL_law_326 : decode cL_law 326 = .ok (.iload_n 3, 1) := by decide +kernel
theorem dL_law_327 : decode cL_law 327 = .ok (.iconst 2, 1) := by decide +kernel
theorem dL_law_328 : decode cL_law 328 = .ok (.iadd, 1) := by decide +kernel
theorem dL_law_329 : decode cL_law 329 = .ok (.iaload, 1) := by decide +kernel
theorem dL_law_330 : decode cL_law 330 = .ok (.invokevirtual 47, 3) := by decide +kernel
theorem dL_law_333 : decode cL_law 333 = .ok (.if_icmp .eq 38, 3) := by decide +kernel
theorem dL_law_336 : decode cL_law 336 = .ok (.iconst 0, 1) := by decide +kernel
theorem dL_law_337 : decode cL_law 337 = .ok (.ireturn, 1) := by decide +kernel
theorem dL_law_338 : decode cL_law 338 = .ok (.aload_n 1, 1) := by decide +kernel
theorem dL_law_339 : decode cL_law 339 = .ok (.aload_n 0, 1) := by decide +kernel
theorem dL_law_340 : decode cL_law 340 = .ok (.iload_n 3, 1) := by decide +kernel
theorem dL_law_341 : decode cL_law 341 = .ok (.iconst 1, 1) := by decide +kernel
theorem dL_law_342 : decode cL_law 342 = .ok (.iadd, 1) := by decide +kernel
theorem dL_law_343 : decode cL_law 343 = .ok (.iaload, 1) := by decide +kernel
theorem dL_law_344 : decode cL_law 344 = .ok (.aload_n 0, 1) := by decide +kernel
theorem dL_law_345 : decode cL_law 345 = .ok (.iload_n 3, 1) := by decide +kernel
theorem dL_law_346 : decode cL_law 346 = .ok (.iconst 2, 1) := by decide +kernel
theorem dL_law_347 : decode cL_law 347 = .ok (.iadd, 1) := by decide +kernel
theorem dL_law_348 : decode cL_law 348 = .ok (.iaload, 1) := by decide +kernel
theorem dL_law_349 : decode cL_law 349 = .ok (.invokevirtual 48, 3) := by decide +kernel
theorem dL_law_352 : decode cL_law 352 = .ok (.aload_n 2, 1) := by decide +kernel
theorem dL_law_353 : decode cL_law 353 = .ok (.aload_n 0, 1) := by decide +kernel
theorem dL_law_354 : decode cL_law 354 = .ok (.iload_n 3, 1) := by decide +kernel
theorem dL_law_355 : decode cL_law 355 = .ok (.iconst 1, 1) := by decide +kernel
theorem dL_law_356 : decode cL_law 356 = .ok (.iadd, 1) := by decide +kernel
theorem dL_law_357 : decode cL_law 357 = .ok (.iaload, 1) := by decide +kernel
theorem dL_law_358 : decode cL_law 358 = .ok (.aload_n 0, 1) := by decide +kernel
theorem dL_law_359 : decode cL_law 359 = .ok (.iload_n 3, 1) := by decide +kernel
theorem dL_law_360 : decode cL_law 360 = .ok (.iconst 2, 1) := by decide +kernel
theorem dL_law_361 : decode cL_law 361 = .ok (.iadd, 1) := by decide +kernel
theorem dL_law_362 : decode cL_law 362 = .ok (.iaload, 1) := by decide +kernel
theorem dL_law_363 : decode cL_law 363 = .ok (.invokevirtual 51, 3) := by decide +kernel
theorem dL_law_366 : decode cL_law 366 = .ok (.if_icmp .eq 5, 3) := by decide +kernel
theorem dL_law_369 : decode cL_law 369 = .ok (.iconst 0, 1) := by decide +kernel
theorem dL_law_370 : decode cL_law 370 = .ok (.ireturn, 1) := by decide +kernel
theorem dL_law_371 : decode cL_law 371 = .ok (.iinc 3 4, 3) := by decide +kernel
theorem dL_law_374 : decode cL_law 374 = .ok (.goto (-356), 3) := by decide +kernel
theorem dL_law_377 : decode cL_law 377 = .ok (.iconst 1, 1) := by decide +kernel
theorem dL_law_378 : decode cL_law 378 = .ok (.ireturn, 1) := by decide +kernel
end
section
/-! PURE, 1: the order of a row. A path is the list of keys from the root down to an insert; a row is sorted by tr_lt over the paths. -/
def tr_lt : List Nat → List Nat → Prop
  | [], [] => False
  | [], _ :: _ => True
  | _ :: _, [] => False
  | a :: p, b :: q => b < a ∨ (a = b ∧ tr_lt p q)
theorem tr_lt_nn : ¬ tr_lt [] [] := fun h => h
theorem tr_lt_nc (b : Nat) (q : List Nat) : tr_lt [] (b :: q) := True.intro
theorem tr_lt_cn (a : Nat) (p : List Nat) : ¬ tr_lt (a :: p) [] := fun h => h
theorem tr_lt_cc (a b : Nat) (p q : List Nat) : tr_lt (a :: p) (b :: q) ↔ b < a ∨ (a = b ∧ tr_lt p q) := Iff.rfl
theorem tr_lt_irr : ∀ p, ¬ tr_lt p p := by
  intro p
  induction p with
  | nil => exact tr_lt_nn
  | cons a p ih =>
    intro h
    rcases (tr_lt_cc a a p p).mp h with h | ⟨-, h⟩
    · omega
    · exact ih h
theorem tr_lt_tr : ∀ (p q r : List Nat), tr_lt p q → tr_lt q r → tr_lt p r := by
  intro p
  induction p with
  | nil =>
    intro q r h1 h2
    cases r with
    | nil =>
      cases q with
      | nil => exact absurd h1 tr_lt_nn
      | cons b q => exact absurd h2 (tr_lt_cn b q)
    | cons c r => exact tr_lt_nc c r
  | cons a p ih =>
    intro q r h1 h2
    cases q with
    | nil => exact absurd h1 (tr_lt_cn a p)
    | cons b q =>
      cases r with
      | nil => exact absurd h2 (tr_lt_cn b q)
      | cons c r =>
        rw [tr_lt_cc] at h1 h2 ⊢
        rcases h1 with h1 | ⟨e1, h1⟩
        · rcases h2 with h2 | ⟨e2, h2⟩
          · left; omega
          · left; omega
        · rcases h2 with h2 | ⟨e2, h2⟩
          · left; omega
          · right; exact ⟨e1.trans e2, ih q r h1 h2⟩
theorem tr_lt_asym {p q : List Nat} (h1 : tr_lt p q) (h2 : tr_lt q p) : False := tr_lt_irr p (tr_lt_tr p q p h1 h2)
theorem tr_lt_app (p : List Nat) (k : Nat) (q : List Nat) : tr_lt p (p ++ k :: q) := by
  induction p with
  | nil => exact tr_lt_nc k q
  | cons a p ih => exact Or.inr ⟨rfl, ih⟩
theorem tr_lt_div (p : List Nat) {j k : Nat} (h : k < j) (q r : List Nat) : tr_lt (p ++ j :: q) (p ++ k :: r) := by
  induction p with
  | nil => exact Or.inl h
  | cons a p ih => exact Or.inr ⟨rfl, ih⟩
theorem tr_lt_cases : ∀ (p q : List Nat), tr_lt p q → (∃ k r, q = p ++ k :: r) ∨ (∃ cm j k r1 r2, p = cm ++ j :: r1 ∧ q = cm ++ k :: r2 ∧ k < j) := by
  intro p
  induction p with
  | nil =>
    intro q h
    cases q with
    | nil => exact absurd h tr_lt_nn
    | cons b q => exact Or.inl ⟨b, q, rfl⟩
  | cons a p ih =>
    intro q h
    cases q with
    | nil => exact absurd h (tr_lt_cn a p)
    | cons b q =>
      rcases (tr_lt_cc a b p q).mp h with h | ⟨e, hh⟩
      · exact Or.inr ⟨[], a, b, p, q, rfl, rfl, h⟩
      · subst e
        rcases ih q hh with ⟨k, r, h⟩ | ⟨cm, j, k, r1, r2, h1, h2, h3⟩
        · exact Or.inl ⟨k, r, by rw [h]; rfl⟩
        · exact Or.inr ⟨a :: cm, j, k, r1, r2, by rw [h1]; rfl, by rw [h2]; rfl, h3⟩
theorem tr_lt_pre (cm : List Nat) {p q : List Nat} : tr_lt (cm ++ p) (cm ++ q) ↔ tr_lt p q := by
  induction cm with
  | nil => exact Iff.rfl
  | cons a cm ih =>
    constructor
    · intro h
      rcases (tr_lt_cc a a _ _).mp h with h | ⟨-, h⟩
      · omega
      · exact ih.mp h
    · intro h
      exact Or.inr ⟨rfl, ih.mpr h⟩
/-- the path of a node: 0 is the root, c + 1 the insert c -/
def tr_path (pa ky : Nat → Nat) : Nat → List Nat
  | 0 => []
  | c + 1 => tr_path pa ky (min (pa c) c) ++ [ky c]
termination_by v => v
decreasing_by omega
theorem tr_path_0 (pa ky : Nat → Nat) : tr_path pa ky 0 = [] := by rw [tr_path]
theorem tr_path_s {pa ky : Nat → Nat} {c : Nat} (h : pa c ≤ c) : tr_path pa ky (c + 1) = tr_path pa ky (pa c) ++ [ky c] := by
  rw [tr_path, Nat.min_eq_left h]
theorem tr_path_ne {pa ky : Nat → Nat} (c : Nat) : tr_path pa ky (c + 1) ≠ [] := by
  rw [tr_path]
  simp
/-- paths look only at what was made before -/
theorem tr_path_congr {pa ky pa' ky' : Nat → Nat} (n : Nat) (h : ∀ c, c < n → pa c = pa' c ∧ ky c = ky' c) : ∀ v, v ≤ n → tr_path pa ky v = tr_path pa' ky' v := by
  intro v
  induction v using Nat.strongRecOn with
  | _ v ih =>
    intro hv
    cases v with
    | zero => rw [tr_path_0, tr_path_0]
    | succ c =>
      rw [tr_path, tr_path, (h c (by omega)).1, (h c (by omega)).2, ih (min (pa' c) c) (by omega) (by omega)]
def tr_tree (pa ky : Nat → Nat) (K : Nat → Prop) : Prop :=
  (∀ c, K c → pa c ≤ c) ∧ (∀ c a, K c → pa c = a + 1 → K a ∧ ky a < ky c) ∧ (∀ c d, K c → K d → ky c = ky d → c = d)
theorem tr_split {pa ky : Nat → Nat} {K : Nat → Prop} (ht : tr_tree pa ky K) : ∀ c, K c → ∀ (p : List Nat) (k : Nat) (q : List Nat), tr_path pa ky (c + 1) = p ++ k :: q →
    ∃ d, K d ∧ tr_path pa ky (d + 1) = p ++ [k] ∧ tr_path pa ky (pa d) = p ∧ ky d = k ∧ (q = [] → d = c) ∧ k ≤ ky c := by
  intro c
  induction c using Nat.strongRecOn with
  | _ c ih =>
    intro hc p k q h
    rw [tr_path_s (ht.1 c hc)] at h
    rcases List.eq_nil_or_concat q with e | ⟨q', z, e⟩
    · subst e
      obtain ⟨h1, h2⟩ := List.append_inj' h rfl
      have h2 : ky c = k := by simpa using h2
      exact ⟨c, hc, by rw [tr_path_s (ht.1 c hc), h1, h2], h1, h2, fun _ => rfl, by omega⟩
    · have e2 : p ++ k :: q = (p ++ k :: q') ++ [z] := by rw [e]; simp
      rw [e2] at h
      obtain ⟨h1, h2⟩ := List.append_inj' h rfl
      cases hp : pa c with
      | zero => rw [hp, tr_path_0] at h1; simp at h1
      | succ a =>
        have hle := ht.1 c hc
        obtain ⟨ha, hk⟩ := ht.2.1 c a hc hp
        rw [hp] at h1
        obtain ⟨d, g1, g2, g3, g4, g5, g6⟩ := ih a (by omega) ha p k q' h1
        refine ⟨d, g1, g2, g3, g4, fun z => ?_, by omega⟩
        rw [e] at z
        simp at z
theorem tr_inj {pa ky : Nat → Nat} {K : Nat → Prop} (ht : tr_tree pa ky K) {c d : Nat} (hc : K c) (hd : K d) (h : tr_path pa ky (c + 1) = tr_path pa ky (d + 1)) : c = d := by
  rw [tr_path_s (ht.1 c hc), tr_path_s (ht.1 d hd)] at h
  have h2 := (List.append_inj' h rfl).2
  exact ht.2.2 c d hc hd (by simpa using h2)
/-- a node is the root or a known insert -/
def tr_nd (K : Nat → Prop) (v : Nat) : Prop := v = 0 ∨ ∃ a, v = a + 1 ∧ K a
theorem tr_inj_nd {pa ky : Nat → Nat} {K : Nat → Prop} (ht : tr_tree pa ky K) {v w : Nat} (hv : tr_nd K v) (hw : tr_nd K w) (h : tr_path pa ky v = tr_path pa ky w) : v = w := by
  rcases hv with e | ⟨a, e, ha⟩ <;> rcases hw with f | ⟨b, f, hb⟩
  · rw [e, f]
  · subst e; subst f
    rw [tr_path_0] at h
    exact absurd h.symm (tr_path_ne b)
  · subst e; subst f
    rw [tr_path_0] at h
    exact absurd h (tr_path_ne a)
  · subst e; subst f
    rw [tr_inj ht ha hb h]
theorem tr_pa_nd {pa ky : Nat → Nat} {K : Nat → Prop} (ht : tr_tree pa ky K) {c : Nat} (hc : K c) : tr_nd K (pa c) := by
  cases hp : pa c with
  | zero => exact Or.inl rfl
  | succ a => exact Or.inr ⟨a, rfl, (ht.2.1 c a hc hp).1⟩
/-- a row: sorted, and it holds the known inserts -/
def tr_row (pa ky : Nat → Nat) (K : Nat → Prop) (L : List Nat) : Prop :=
  L.Pairwise (fun a b => tr_lt (tr_path pa ky (a + 1)) (tr_path pa ky (b + 1))) ∧ ∀ c, c ∈ L ↔ K c
theorem tr_row.nodup {pa ky : Nat → Nat} {K : Nat → Prop} {L : List Nat} (h : tr_row pa ky K L) : L.Nodup :=
  h.1.imp (fun {a b} hab e => by subst e; exact tr_lt_irr _ hab)
/-- L = A ++ B, and A ends at the node v -/
def tr_cut (v : Nat) (A : List Nat) : Prop := (v = 0 ∧ A = []) ∨ ∃ A0 a, v = a + 1 ∧ A = A0 ++ [a]
theorem tr_after {pa ky : Nat → Nat} {K : Nat → Prop} {A B : List Nat} {v : Nat} (hL : tr_row pa ky K (A ++ B)) (hv : tr_cut v A) : ∀ x, x ∈ B ↔ K x ∧ tr_lt (tr_path pa ky v) (tr_path pa ky (x + 1)) := by
  intro x
  obtain ⟨hp, hm⟩ := hL
  obtain ⟨-, -, hAB⟩ := List.pairwise_append.mp hp
  rcases hv with ⟨e, eA⟩ | ⟨A0, a, e, eA⟩
  · subst e; subst eA
    rw [tr_path_0]
    have h := hm x
    rw [List.nil_append] at h
    rw [h]
    refine ⟨fun k => ⟨k, ?_⟩, fun k => k.1⟩
    cases hx : tr_path pa ky (x + 1) with
    | nil => exact absurd hx (tr_path_ne x)
    | cons b q => exact tr_lt_nc b q
  · subst e; subst eA
    constructor
    · intro hx
      exact ⟨(hm x).mp (List.mem_append_right _ hx), hAB a (by simp) x hx⟩
    · rintro ⟨hx, hlt⟩
      rcases List.mem_append.mp ((hm x).mpr hx) with h | h
      · exfalso
        rcases List.mem_append.mp h with h | h
        · have h1 := (List.pairwise_append.mp (List.pairwise_append.mp hp).1).2.2 x h a (by simp)
          exact tr_lt_asym h1 hlt
        · rw [List.mem_singleton.mp h] at hlt
          exact tr_lt_irr _ hlt
      · exact h
/-- the new insert's place: behind its anchor over all with greater keys -/
theorem tr_ins {pa ky : Nat → Nat} {K : Nat → Prop} {c : Nat} {A T U : List Nat} (htK : tr_tree pa ky K) (hle : pa c ≤ c) (hanc : ∀ a, pa c = a + 1 → K a ∧ ky a < ky c) (hne : ∀ x, K x → ky x ≠ ky c) (hL : tr_row pa ky K (A ++ (T ++ U))) (hA : tr_cut (pa c) A)
    (hT : ∀ x ∈ T, ky c < ky x) (hU : ∀ x U', U = x :: U' → ¬ ky c < ky x) : tr_row pa ky (fun x => K x ∨ x = c) (A ++ (T ++ c :: U)) := by
  have hpc := tr_path_s (ky := ky) hle
  have aft := tr_after hL hA
  obtain ⟨hp, hm⟩ := hL
  obtain ⟨hpA, hpTU, hpAB⟩ := List.pairwise_append.mp hp
  obtain ⟨hpT, hpU, hpTxU⟩ := List.pairwise_append.mp hpTU
  -- what stands up to the anchor stands before c
  have hAc : ∀ x ∈ A, tr_lt (tr_path pa ky (x + 1)) (tr_path pa ky (c + 1)) := by
    intro x hx
    rw [hpc]
    rcases hA with ⟨-, eA⟩ | ⟨A0, a, e, eA⟩
    · rw [eA] at hx; cases hx
    · rw [e]
      rw [eA] at hx hpA
      rcases List.mem_append.mp hx with h | h
      · exact tr_lt_tr _ _ _ ((List.pairwise_append.mp hpA).2.2 x h a (by simp)) (tr_lt_app _ _ _)
      · rw [List.mem_singleton.mp h]
        exact tr_lt_app _ _ _
  -- the top of x below the anchor
  have top : ∀ x, x ∈ T ++ U → ∃ d, d ∈ T ++ U ∧ (d = x ∨ tr_lt (tr_path pa ky (d + 1)) (tr_path pa ky (x + 1))) ∧
      ((∃ r, tr_path pa ky (x + 1) = tr_path pa ky (pa c) ++ ky d :: r) ∨ (ky d < ky c ∧ tr_lt (tr_path pa ky (c + 1)) (tr_path pa ky (x + 1)))) := by
    intro x hx
    obtain ⟨hKx, hlt⟩ := (aft x).mp hx
    rcases tr_lt_cases _ _ hlt with ⟨k, r, e⟩ | ⟨cm, j, k, r1, r2, e1, e2, hjk⟩
    · obtain ⟨d, g1, g2, g3, g4, g5, g6⟩ := tr_split htK x hKx _ k r e
      refine ⟨d, (aft d).mpr ⟨g1, by rw [g2]; exact tr_lt_app _ _ _⟩, ?_, Or.inl ⟨r, by rw [e, g4]⟩⟩
      cases r with
      | nil => exact Or.inl (g5 rfl)
      | cons z r =>
        refine Or.inr ?_
        rw [e, g2, show tr_path pa ky (pa c) ++ k :: z :: r = (tr_path pa ky (pa c) ++ [k]) ++ z :: r by simp]
        exact tr_lt_app _ _ _
    · obtain ⟨d, g1, g2, g3, g4, g5, g6⟩ := tr_split htK x hKx _ k r2 e2
      have hjc : j < ky c := by
        cases hv : pa c with
        | zero => rw [hv, tr_path_0] at e1; simp at e1
        | succ a =>
          obtain ⟨ha, hak⟩ := hanc a hv
          rw [hv] at e1
          obtain ⟨_, _, _, _, _, _, g⟩ := tr_split htK a ha _ j r1 e1
          omega
      refine ⟨d, (aft d).mpr ⟨g1, by rw [g2, e1]; exact tr_lt_div _ hjk _ _⟩, ?_, Or.inr ⟨by omega, ?_⟩⟩
      · cases r2 with
        | nil => exact Or.inl (g5 rfl)
        | cons z r =>
          refine Or.inr ?_
          rw [e2, g2, show cm ++ k :: z :: r = (cm ++ [k]) ++ z :: r by simp]
          exact tr_lt_app _ _ _
      · rw [hpc, e1, e2, List.append_assoc, List.cons_append]
        exact tr_lt_div _ hjk _ _
  have hTc : ∀ x ∈ T, tr_lt (tr_path pa ky (x + 1)) (tr_path pa ky (c + 1)) := by
    intro x hx
    obtain ⟨d, hd, hdx, hcase⟩ := top x (List.mem_append_left _ hx)
    have hdT : d ∈ T := by
      rcases List.mem_append.mp hd with h | h
      · exact h
      · exfalso
        have h1 := hpTxU x hx d h
        rcases hdx with e | h2
        · rw [e] at h1; exact tr_lt_irr _ h1
        · exact tr_lt_asym h1 h2
    have hkd := hT d hdT
    rcases hcase with ⟨r, e⟩ | ⟨h, -⟩
    · rw [e, hpc]
      exact tr_lt_div _ hkd _ _
    · omega
  have hUc : ∀ y ∈ U, tr_lt (tr_path pa ky (c + 1)) (tr_path pa ky (y + 1)) := by
    intro y hy
    cases hUe : U with
    | nil => rw [hUe] at hy; cases hy
    | cons u U' =>
      have hu : u ∈ U := by rw [hUe]; exact List.mem_cons_self
      have hKu : K u := ((aft u).mp (List.mem_append_right _ hu)).1
      have hku : ky u < ky c := by
        have h1 := hU u U' hUe
        have h2 := hne u hKu
        omega
      have hcu : tr_lt (tr_path pa ky (c + 1)) (tr_path pa ky (u + 1)) := by
        obtain ⟨d, hd, hdx, hcase⟩ := top u (List.mem_append_right _ hu)
        rcases hcase with ⟨r, e⟩ | ⟨-, h⟩
        · obtain ⟨d', g1, g2, g3, g4, g5, g6⟩ := tr_split htK u hKu _ (ky d) r e
          rw [e, hpc]
          exact tr_lt_div _ (by omega) _ _
        · exact h
      rw [hUe] at hy hpU
      rcases List.mem_cons.mp hy with e | h
      · rw [e]; exact hcu
      · exact tr_lt_tr _ _ _ hcu ((List.pairwise_cons.mp hpU).1 y h)
  refine ⟨List.pairwise_append.mpr ⟨hpA, List.pairwise_append.mpr ⟨hpT, List.pairwise_cons.mpr ⟨hUc, hpU⟩, ?_⟩, ?_⟩, ?_⟩
  · intro x hx y hy
    rcases List.mem_cons.mp hy with e | h
    · rw [e]; exact hTc x hx
    · exact hpTxU x hx y h
  · intro x hx y hy
    rcases List.mem_append.mp hy with h | h
    · exact hpAB x hx y (List.mem_append_left _ h)
    · rcases List.mem_cons.mp h with e | h
      · rw [e]; exact hAc x hx
      · exact hpAB x hx y (List.mem_append_right _ h)
  · intro x
    have h := hm x
    simp only [List.mem_append, List.mem_cons] at h ⊢
    rw [← h]
    constructor
    · rintro (h | h | h | h)
      · exact Or.inl (Or.inl h)
      · exact Or.inl (Or.inr (Or.inl h))
      · exact Or.inr h
      · exact Or.inl (Or.inr (Or.inr h))
    · rintro ((h | h | h) | h)
      · exact Or.inl h
      · exact Or.inr (Or.inl h)
      · exact Or.inr (Or.inr (Or.inr h))
      · exact Or.inr (Or.inr (Or.inl h))
/-- the first of a list, as a node (0: none) -/
def tr_hd : List Nat → Nat
  | [] => 0
  | c :: _ => c + 1
theorem tr_hd_of {pa ky : Nat → Nat} {K : Nat → Prop} {A B : List Nat} {v y : Nat} (hL : tr_row pa ky K (A ++ B)) (hv : tr_cut v A) (hy : K y) (hlt : tr_lt (tr_path pa ky v) (tr_path pa ky (y + 1)))
    (hmin : ∀ z, K z → tr_lt (tr_path pa ky v) (tr_path pa ky (z + 1)) → z = y ∨ tr_lt (tr_path pa ky (y + 1)) (tr_path pa ky (z + 1))) : tr_hd B = y + 1 := by
  have aft := tr_after hL hv
  have hyB := (aft y).mpr ⟨hy, hlt⟩
  obtain ⟨hp, -⟩ := hL
  have hpB := (List.pairwise_append.mp hp).2.1
  cases hB : B with
  | nil => rw [hB] at hyB; cases hyB
  | cons b B' =>
    rw [hB] at hyB hpB
    have hb := (aft b).mp (by rw [hB]; exact List.mem_cons_self)
    show b + 1 = y + 1
    rcases List.mem_cons.mp hyB with e | h
    · rw [e]
    · have h1 := (List.pairwise_cons.mp hpB).1 y h
      rcases hmin b hb.1 hb.2 with e | h2
      · rw [e]
      · exact absurd h2 (fun h2 => tr_lt_asym h1 h2)
theorem tr_hd_none {pa ky : Nat → Nat} {K : Nat → Prop} {A B : List Nat} {v : Nat} (hL : tr_row pa ky K (A ++ B)) (hv : tr_cut v A) (hno : ∀ z, K z → ¬ tr_lt (tr_path pa ky v) (tr_path pa ky (z + 1))) : B = [] := by
  have aft := tr_after hL hv
  cases B with
  | nil => rfl
  | cons b B =>
    have h := (aft b).mp List.mem_cons_self
    exact absurd h.2 (hno b h.1)
/-- what 'following' answers: of the known inserts on the node v (with keys below that of the node b, if that is none the root) the greatest, 0 if there is none -/
def tr_fol (pa ky : Nat → Nat) (K : Nat → Prop) (v b x : Nat) : Prop :=
  (x = 0 ∧ ∀ c, K c → pa c = v → ¬ (b = 0 ∨ ky c < ky (b - 1))) ∨
  (∃ y, x = y + 1 ∧ K y ∧ pa y = v ∧ (b = 0 ∨ ky y < ky (b - 1)) ∧ ∀ c, K c → pa c = v → (b = 0 ∨ ky c < ky (b - 1)) → ky c ≤ ky y)
theorem tr_child {pa ky : Nat → Nat} {K : Nat → Prop} {A B : List Nat} {v y : Nat} (ht : tr_tree pa ky K) (hL : tr_row pa ky K (A ++ B)) (hv : tr_cut v A) (hn : tr_nd K v) (hf : tr_fol pa ky K v 0 (y + 1)) : tr_hd B = y + 1 := by
  rcases hf with ⟨h, -⟩ | ⟨y', e, hy, hpa, -, hmax⟩
  · omega
  have e : y = y' := by omega
  subst e
  have hpy : tr_path pa ky (y + 1) = tr_path pa ky v ++ [ky y] := by rw [tr_path_s (ht.1 y hy), hpa]
  refine tr_hd_of hL hv hy (by rw [hpy]; exact tr_lt_app _ _ _) ?_
  intro z hz hlt
  rcases tr_lt_cases _ _ hlt with ⟨k, r, e⟩ | ⟨cm, j, k, r1, r2, e1, e2, hjk⟩
  · obtain ⟨d, g1, g2, g3, g4, g5, g6⟩ := tr_split ht z hz _ k r e
    have hpd : pa d = v := tr_inj_nd ht (tr_pa_nd ht g1) hn g3
    have hle := hmax d g1 hpd (Or.inl rfl)
    by_cases hk : k = ky y
    · have hdy : d = y := ht.2.2 d y g1 hy (by omega)
      cases r with
      | nil =>
        left
        rw [← g5 rfl, hdy]
      | cons w r =>
        right
        rw [e, hpy, hk, show tr_path pa ky v ++ ky y :: w :: r = (tr_path pa ky v ++ [ky y]) ++ w :: r by simp]
        exact tr_lt_app _ _ _
    · right
      rw [e, hpy]
      exact tr_lt_div _ (by omega) _ _
  · right
    rw [e2, hpy, e1, List.append_assoc, List.cons_append]
    exact tr_lt_div _ hjk _ _
/-- nothing behind v lies under the node w -/
def tr_nosub (pa ky : Nat → Nat) (K : Nat → Prop) (v w : Nat) : Prop := ∀ z, K z → tr_lt (tr_path pa ky v) (tr_path pa ky (z + 1)) → ∀ r, tr_path pa ky (z + 1) ≠ tr_path pa ky w ++ r
theorem tr_nosub_start {pa ky : Nat → Nat} {K : Nat → Prop} {v : Nat} (ht : tr_tree pa ky K) (hn : tr_nd K v) (hf : tr_fol pa ky K v 0 0) : tr_nosub pa ky K v v := by
  intro z hz hlt r e
  rcases hf with ⟨-, hf⟩ | ⟨y, e, -⟩
  · cases r with
    | nil =>
      rw [e, List.append_nil] at hlt
      exact tr_lt_irr _ hlt
    | cons k r =>
      obtain ⟨d, g1, g2, g3, g4, g5, g6⟩ := tr_split ht z hz _ k r e
      exact hf d g1 (tr_inj_nd ht (tr_pa_nd ht g1) hn g3) (Or.inl rfl)
  · omega
theorem tr_nosub_step {pa ky : Nat → Nat} {K : Nat → Prop} {v b : Nat} {q : List Nat} (ht : tr_tree pa ky K) (hb : K b) (hpre : tr_path pa ky v = tr_path pa ky (b + 1) ++ q) (hno : tr_nosub pa ky K v (b + 1)) (hf : tr_fol pa ky K (pa b) (b + 1) 0) : tr_nosub pa ky K v (pa b) := by
  intro z hz hlt r e
  have hpb := tr_path_s (ky := ky) (ht.1 b hb)
  have hlt2 := hlt
  rw [hpre, hpb, e, List.append_assoc, tr_lt_pre] at hlt2
  cases r with
  | nil => exact absurd hlt2 (tr_lt_cn _ _)
  | cons k r =>
    rcases (tr_lt_cc _ _ _ _).mp hlt2 with h | ⟨h, -⟩
    · obtain ⟨d, g1, g2, g3, g4, g5, g6⟩ := tr_split ht z hz _ k r e
      have hpd : pa d = pa b := tr_inj_nd ht (tr_pa_nd ht g1) (tr_pa_nd ht hb) g3
      rcases hf with ⟨-, hf⟩ | ⟨y, e, -⟩
      · refine hf d g1 hpd (Or.inr ?_)
        show ky d < ky (b + 1 - 1)
        rw [Nat.add_sub_cancel]
        omega
      · omega
    · refine hno z hz hlt r ?_
      rw [e, hpb, h]
      simp
theorem tr_nosub_end {pa ky : Nat → Nat} {K : Nat → Prop} {A B : List Nat} {v : Nat} (hL : tr_row pa ky K (A ++ B)) (hv : tr_cut v A) (hno : tr_nosub pa ky K v 0) : B = [] := by
  refine tr_hd_none hL hv (fun z hz hlt => hno z hz hlt (tr_path pa ky (z + 1)) ?_)
  rw [tr_path_0]
  rfl
theorem tr_brother {pa ky : Nat → Nat} {K : Nat → Prop} {A B : List Nat} {v b y : Nat} {q : List Nat} (ht : tr_tree pa ky K) (hL : tr_row pa ky K (A ++ B)) (hv : tr_cut v A) (hb : K b) (hpre : tr_path pa ky v = tr_path pa ky (b + 1) ++ q) (hno : tr_nosub pa ky K v (b + 1)) (hf : tr_fol pa ky K (pa b) (b + 1) (y + 1)) : tr_hd B = y + 1 := by
  have hpb := tr_path_s (ky := ky) (ht.1 b hb)
  rcases hf with ⟨h, -⟩ | ⟨y', e, hy, hpa, hless, hmax⟩
  · omega
  have e : y = y' := by omega
  subst e
  have hyb : ky y < ky b := by
    rcases hless with h | h
    · omega
    · rwa [Nat.add_sub_cancel] at h
  have hpy : tr_path pa ky (y + 1) = tr_path pa ky (pa b) ++ [ky y] := by rw [tr_path_s (ht.1 y hy), hpa]
  have hpv : tr_path pa ky v = tr_path pa ky (pa b) ++ ky b :: q := by rw [hpre, hpb]; simp
  refine tr_hd_of hL hv hy (by rw [hpy, hpv]; exact tr_lt_div _ hyb _ _) ?_
  intro z hz hlt
  have hno1 := hno z hz hlt
  rcases tr_lt_cases _ _ hlt with ⟨k, r, e⟩ | ⟨cm, j, k, r1, r2, e1, e2, hjk⟩
  · exact absurd (by rw [e, hpre, List.append_assoc]) (hno1 (q ++ k :: r))
  · rw [hpv] at e1
    rcases List.append_eq_append_iff.mp e1 with ⟨w, f1, f2⟩ | ⟨w, f1, f2⟩
    · -- cm = path (pa b) ++ w
      cases w with
      | nil =>
        rw [List.append_nil] at f1
        have f3 : ky b = j ∧ q = r1 := by simpa using f2
        obtain ⟨d, g1, g2, g3, g4, g5, g6⟩ := tr_split ht z hz _ k r2 e2
        rw [f1] at g3
        have hpd : pa d = pa b := tr_inj_nd ht (tr_pa_nd ht g1) (tr_pa_nd ht hb) g3
        have hle := hmax d g1 hpd (Or.inr (by rw [Nat.add_sub_cancel]; omega))
        by_cases hk : k = ky y
        · have hdy : d = y := ht.2.2 d y g1 hy (by omega)
          cases r2 with
          | nil =>
            left
            rw [← g5 rfl, hdy]
          | cons w2 r =>
            right
            rw [e2, f1, hpy, hk, show tr_path pa ky (pa b) ++ ky y :: w2 :: r = (tr_path pa ky (pa b) ++ [ky y]) ++ w2 :: r by simp]
            exact tr_lt_app _ _ _
        · right
          rw [e2, f1, hpy]
          exact tr_lt_div _ (by omega) _ _
      | cons w0 w =>
        exfalso
        have f3 : ky b = w0 := by
          have := congrArg List.head? f2
          simpa using this
        refine hno1 (w ++ k :: r2) ?_
        rw [e2, f1, hpb, f3]
        simp
    · -- path (pa b) = cm ++ w
      cases w with
      | nil =>
        rw [List.append_nil] at f1
        have f3 : j = ky b ∧ r1 = q := by simpa using f2
        obtain ⟨d, g1, g2, g3, g4, g5, g6⟩ := tr_split ht z hz _ k r2 e2
        rw [← f1] at g3
        have hpd : pa d = pa b := tr_inj_nd ht (tr_pa_nd ht g1) (tr_pa_nd ht hb) g3
        have hle := hmax d g1 hpd (Or.inr (by rw [Nat.add_sub_cancel]; omega))
        by_cases hk : k = ky y
        · have hdy : d = y := ht.2.2 d y g1 hy (by omega)
          cases r2 with
          | nil =>
            left
            rw [← g5 rfl, hdy]
          | cons w2 r =>
            right
            rw [e2, ← f1, hpy, hk, show tr_path pa ky (pa b) ++ ky y :: w2 :: r = (tr_path pa ky (pa b) ++ [ky y]) ++ w2 :: r by simp]
            exact tr_lt_app _ _ _
        · right
          rw [e2, ← f1, hpy]
          exact tr_lt_div _ (by omega) _ _
      | cons w0 w =>
        right
        have f3 : j = w0 := by
          have := congrArg List.head? f2
          simpa using this
        rw [e2, hpy, f1, ← f3, List.append_assoc, List.cons_append]
        exact tr_lt_div _ hjk _ _
end
section
/-! PURE, 2: the abstract state, its steps, its invariant. -/
/-- n changes were made; og: origin; ins: is it an insert; pa: anchor or target, as a node (0 none, c + 1 the insert c); le: letter; st: stamp; kv r o: how many changes of o the replica r knows; row r; tk r c: taken away; gr r: greatest stamp -/
def TS : Type := Nat × (Nat → Nat) × (Nat → Bool) × (Nat → Nat) × (Nat → Int32) × (Nat → Nat) × (Nat → Nat → Nat) × (Nat → List Nat) × (Nat → Nat → Bool) × (Nat → Nat)
def TS.n (S : TS) : Nat := S.1
def TS.og (S : TS) : Nat → Nat := S.2.1
def TS.ins (S : TS) : Nat → Bool := S.2.2.1
def TS.pa (S : TS) : Nat → Nat := S.2.2.2.1
def TS.le (S : TS) : Nat → Int32 := S.2.2.2.2.1
def TS.st (S : TS) : Nat → Nat := S.2.2.2.2.2.1
def TS.kv (S : TS) : Nat → Nat → Nat := S.2.2.2.2.2.2.1
def TS.row (S : TS) : Nat → List Nat := S.2.2.2.2.2.2.2.1
def TS.tk (S : TS) : Nat → Nat → Bool := S.2.2.2.2.2.2.2.2.1
def TS.gr (S : TS) : Nat → Nat := S.2.2.2.2.2.2.2.2.2
def tr_ky (S : TS) (c : Nat) : Nat := 3 * S.st c + S.og c
def tr_cnt (og : Nat → Nat) (o : Nat) : Nat → Nat
  | 0 => 0
  | n + 1 => tr_cnt og o n + (if og n = o then 1 else 0)
/-- the number of a change among its origin's -/
def tr_num (S : TS) (c : Nat) : Nat := tr_cnt S.og (S.og c) (c + 1)
def tr_kn (S : TS) (r c : Nat) : Bool := decide (tr_num S c ≤ S.kv r (S.og c))
def tr_K (S : TS) (r c : Nat) : Prop := c < S.n ∧ S.ins c = true ∧ tr_kn S r c = true
def tr_tx (S : TS) (r : Nat) : List Nat := (S.row r).filter (fun c => !S.tk r c)
def tr_new (S : TS) (r : Nat) (b : Bool) (v : Nat) (x : Int32) (t : Nat) : TS :=
  (S.n + 1, va_up S.og S.n r, va_up S.ins S.n b, va_up S.pa S.n v, va_up S.le S.n x, va_up S.st S.n t, S.kv, S.row, S.tk, S.gr)
def tr_know (S : TS) (r c : Nat) : TS :=
  (S.n, S.og, S.ins, S.pa, S.le, S.st, va_up S.kv r (va_up (S.kv r) (S.og c) (tr_num S c)), S.row, S.tk, S.gr)
def tr_insB (ky : Nat → Nat) (c : Nat) : List Nat → List Nat
  | [] => [c]
  | x :: l => if ky c < ky x then x :: tr_insB ky c l else c :: x :: l
def tr_putA (ky : Nat → Nat) (a c : Nat) : List Nat → List Nat
  | [] => []
  | x :: l => if x = a then x :: tr_insB ky c l else x :: tr_putA ky a c l
def tr_putL (ky : Nat → Nat) (v c : Nat) (L : List Nat) : List Nat := if v = 0 then tr_insB ky c L else tr_putA ky (v - 1) c L
def tr_place (S : TS) (r c : Nat) : TS :=
  (S.n, S.og, S.ins, S.pa, S.le, S.st, S.kv, va_up S.row r (tr_putL (tr_ky S) (S.pa c) c (S.row r)), va_up S.tk r (va_up (S.tk r) c false), va_up S.gr r (max (S.gr r) (S.st c)))
def tr_take (S : TS) (r c : Nat) : TS :=
  (S.n, S.og, S.ins, S.pa, S.le, S.st, S.kv, S.row, va_up S.tk r (va_up (S.tk r) c true), S.gr)
def tr_learn (S : TS) (r c : Nat) : TS := if S.ins c = true then tr_place (tr_know S r c) r c else tr_take (tr_know S r c) r (S.pa c - 1)
/-! counting -/
theorem tr_cnt_s (og : Nat → Nat) (o n : Nat) : tr_cnt og o (n + 1) = tr_cnt og o n + (if og n = o then 1 else 0) := rfl
theorem tr_cnt_mono (og : Nat → Nat) (o : Nat) {a b : Nat} (h : a ≤ b) : tr_cnt og o a ≤ tr_cnt og o b := by
  induction h with
  | refl => exact Nat.le_refl _
  | step h ih => exact Nat.le_trans ih (Nat.le_add_right _ _)
theorem tr_cnt_le (og : Nat → Nat) (o n : Nat) : tr_cnt og o n ≤ n := by
  induction n with
  | zero => exact Nat.le_refl _
  | succ n ih =>
    rw [tr_cnt_s]
    split <;> omega
theorem tr_cnt_congr {og og' : Nat → Nat} (o : Nat) : ∀ n, (∀ c, c < n → og c = og' c) → tr_cnt og o n = tr_cnt og' o n := by
  intro n
  induction n with
  | zero => intro _; rfl
  | succ n ih =>
    intro h
    rw [tr_cnt_s, tr_cnt_s, ih (fun c hc => h c (by omega)), h n (by omega)]
theorem tr_num_eq (S : TS) (c : Nat) : tr_num S c = tr_cnt S.og (S.og c) c + 1 := by
  show tr_cnt S.og (S.og c) (c + 1) = _
  rw [tr_cnt_s, if_pos rfl]
theorem tr_num_pos (S : TS) (c : Nat) : 1 ≤ tr_num S c := by rw [tr_num_eq]; omega
theorem tr_num_le (S : TS) {c n : Nat} (h : c < n) : tr_num S c ≤ tr_cnt S.og (S.og c) n := tr_cnt_mono _ _ h
theorem tr_num_c (S : TS) (c : Nat) : tr_num S c ≤ c + 1 := tr_cnt_le _ _ _
theorem tr_num_lt (S : TS) {c d : Nat} (h : c < d) (e : S.og c = S.og d) : tr_num S c < tr_num S d := by
  rw [tr_num_eq S d]
  have := tr_num_le S h
  rw [e] at this
  omega
theorem tr_num_inj (S : TS) {c d : Nat} (e : S.og c = S.og d) (h : tr_num S c = tr_num S d) : c = d := by
  rcases Nat.lt_trichotomy c d with q | q | q
  · have := tr_num_lt S q e; omega
  · exact q
  · have := tr_num_lt S q e.symm; omega
/-- each number up to the count is some change's -/
theorem tr_num_ex (S : TS) (o : Nat) : ∀ n k, 1 ≤ k → k ≤ tr_cnt S.og o n → ∃ c, c < n ∧ S.og c = o ∧ tr_num S c = k := by
  intro n
  induction n with
  | zero =>
    intro k h1 h2
    exact absurd h2 (by show ¬ k ≤ 0; omega)
  | succ n ih =>
    intro k h1 h2
    by_cases hk : k ≤ tr_cnt S.og o n
    · obtain ⟨c, g1, g2, g3⟩ := ih k h1 hk
      exact ⟨c, by omega, g2, g3⟩
    · rw [tr_cnt_s] at h2
      by_cases ho : S.og n = o
      · rw [if_pos ho] at h2
        refine ⟨n, by omega, ho, ?_⟩
        rw [tr_num_eq, ho]
        omega
      · rw [if_neg ho] at h2
        omega
theorem tr_kn_iff (S : TS) (r c : Nat) : tr_kn S r c = true ↔ tr_num S c ≤ S.kv r (S.og c) := by unfold tr_kn; exact decide_eq_true_iff
/-! the invariant -/
def tr_I1 (S : TS) : Prop := S.n ≤ 48 ∧ ∀ c, c < S.n → S.og c < 3 ∧ S.pa c ≤ c ∧ (S.ins c = true → 1 ≤ S.st c ∧ S.st c ≤ c + 1) ∧ (S.ins c = false → S.pa c ≠ 0) ∧ (∀ a, S.pa c = a + 1 → S.ins a = true ∧ (S.ins c = true → S.st a < S.st c))
def tr_I2 (S : TS) : Prop := ∀ c d, c < S.n → d < S.n → S.ins c = true → S.ins d = true → tr_ky S c = tr_ky S d → c = d
def tr_I3 (S : TS) : Prop := ∀ r, r < 3 → ∀ o, o < 3 → S.kv r o ≤ tr_cnt S.og o S.n
def tr_I4 (S : TS) : Prop := ∀ r, r < 3 → ∀ c, c < S.n → tr_kn S r c = true → ∀ a, S.pa c = a + 1 → tr_kn S r a = true
def tr_I5 (S : TS) : Prop := ∀ r, r < 3 → tr_row S.pa (tr_ky S) (tr_K S r) (S.row r)
def tr_I6 (S : TS) : Prop := ∀ r, r < 3 → ∀ c, c ∈ S.row r → (S.tk r c = true ↔ ∃ d, d < S.n ∧ S.ins d = false ∧ tr_kn S r d = true ∧ S.pa d = c + 1)
def tr_I7 (S : TS) : Prop := ∀ r, r < 3 → (∀ c, tr_K S r c → S.st c ≤ S.gr r) ∧ (S.gr r = 0 ∨ ∃ c, tr_K S r c ∧ S.st c = S.gr r)
def tr_own (S : TS) : Prop := ∀ r, r < 3 → S.kv r r = tr_cnt S.og r S.n
def tr_I (S : TS) : Prop := tr_I1 S ∧ tr_I2 S ∧ tr_I3 S ∧ tr_I4 S ∧ tr_I5 S ∧ tr_I6 S ∧ tr_I7 S
def tr_Inv (S : TS) : Prop := tr_I S ∧ tr_own S
theorem tr_I.tree {S : TS} (h : tr_I S) {r : Nat} (hr : r < 3) : tr_tree S.pa (tr_ky S) (tr_K S r) := by
  obtain ⟨h1, h2, h3, h4, h5, h6, h7⟩ := h
  refine ⟨fun c hc => (h1.2 c hc.1).2.1, fun c a hc e => ?_, fun c d hc hd e => h2 c d hc.1 hd.1 hc.2.1 hd.2.1 e⟩
  obtain ⟨g1, g2, g3, g4, g5⟩ := h1.2 c hc.1
  obtain ⟨k1, k2⟩ := g5 a e
  have hac : a < S.n := by have := hc.1; omega
  refine ⟨⟨hac, k1, h4 r hr c hc.1 hc.2.2 a e⟩, ?_⟩
  have h8 := k2 hc.2.1
  have h9 := (h1.2 a hac).1
  unfold tr_ky
  omega
theorem tr_I.mem {S : TS} (h : tr_I S) {r : Nat} (hr : r < 3) {c : Nat} : c ∈ S.row r ↔ tr_K S r c := (h.2.2.2.2.1 r hr).2 c
theorem tr_I.nodup {S : TS} (h : tr_I S) {r : Nat} (hr : r < 3) : (S.row r).Nodup := (h.2.2.2.2.1 r hr).nodup
theorem tr_len_of_lt : ∀ (n : Nat) (L : List Nat), L.Nodup → (∀ c ∈ L, c < n) → L.length ≤ n := by
  intro n
  induction n with
  | zero =>
    intro L _ h
    cases L with
    | nil => exact Nat.le_refl _
    | cons a L => exact absurd (h a List.mem_cons_self) (by omega)
  | succ n ih =>
    intro L hn h
    have h1 : (L.erase n).length ≤ n := by
      refine ih _ (hn.erase n) (fun c hc => ?_)
      have h2 := (hn.mem_erase_iff).mp hc
      have h3 := h c h2.2
      omega
    by_cases hm : n ∈ L
    · rw [List.length_erase_of_mem hm] at h1
      omega
    · rw [List.erase_of_not_mem hm] at h1
      omega
theorem tr_I.rowlen {S : TS} (h : tr_I S) {r : Nat} (hr : r < 3) : (S.row r).length ≤ S.n := tr_len_of_lt _ _ (h.nodup hr) (fun _ hc => ((h.mem hr).mp hc).1)
theorem tr_tx_le (S : TS) (r : Nat) : (tr_tx S r).length ≤ (S.row r).length := List.length_filter_le _ _
/-! the new insert's place as a function -/
theorem tr_insB_split (ky : Nat → Nat) (c : Nat) : ∀ B, ∃ T U, B = T ++ U ∧ tr_insB ky c B = T ++ c :: U ∧ (∀ x ∈ T, ky c < ky x) ∧ (∀ x U', U = x :: U' → ¬ ky c < ky x) := by
  intro B
  induction B with
  | nil => exact ⟨[], [], rfl, rfl, fun x h => (by cases h), fun x U' h => (by cases h)⟩
  | cons b B ih =>
    by_cases hb : ky c < ky b
    · obtain ⟨T, U, e1, e2, h1, h2⟩ := ih
      refine ⟨b :: T, U, by rw [e1]; rfl, ?_, fun x hx => ?_, h2⟩
      · show (if ky c < ky b then b :: tr_insB ky c B else c :: b :: B) = _
        rw [if_pos hb, e2]
        rfl
      · rcases List.mem_cons.mp hx with e | h
        · rw [e]; exact hb
        · exact h1 x h
    · refine ⟨[], b :: B, rfl, ?_, fun x h => (by cases h), fun x U' h => ?_⟩
      · show (if ky c < ky b then b :: tr_insB ky c B else c :: b :: B) = _
        rw [if_neg hb]
        rfl
      · have e : b = x := by injection h
        rw [← e]; exact hb
theorem tr_insB_eq (ky : Nat → Nat) (c : Nat) (U : List Nat) (hU : ∀ x U', U = x :: U' → ¬ ky c < ky x) : ∀ T, (∀ x ∈ T, ky c < ky x) → tr_insB ky c (T ++ U) = T ++ c :: U := by
  intro T
  induction T with
  | nil =>
    intro _
    cases U with
    | nil => rfl
    | cons u U =>
      show (if ky c < ky u then u :: tr_insB ky c U else c :: u :: U) = _
      rw [if_neg (hU u U rfl)]
      rfl
  | cons t T ih =>
    intro h
    show (if ky c < ky t then t :: tr_insB ky c (T ++ U) else c :: t :: (T ++ U)) = _
    rw [if_pos (h t List.mem_cons_self), ih (fun x hx => h x (List.mem_cons_of_mem _ hx))]
    rfl
theorem tr_putA_eq (ky : Nat → Nat) (a c : Nat) (B : List Nat) : ∀ A0, a ∉ A0 → tr_putA ky a c (A0 ++ a :: B) = A0 ++ a :: tr_insB ky c B := by
  intro A0
  induction A0 with
  | nil =>
    intro _
    show (if a = a then a :: tr_insB ky c B else a :: tr_putA ky a c B) = _
    rw [if_pos rfl]
    rfl
  | cons x A0 ih =>
    intro h
    have h1 : x ≠ a := fun e => h (by rw [e]; exact List.mem_cons_self)
    show (if x = a then x :: tr_insB ky c (A0 ++ a :: B) else x :: tr_putA ky a c (A0 ++ a :: B)) = _
    rw [if_neg h1, ih (fun hm => h (List.mem_cons_of_mem _ hm))]
    rfl
/-- from any node of the row: it is cut there -/
theorem tr_cut_ex {L : List Nat} {v : Nat} (h : v = 0 ∨ ∃ a, v = a + 1 ∧ a ∈ L) : ∃ A B, L = A ++ B ∧ tr_cut v A := by
  rcases h with e | ⟨a, e, ha⟩
  · exact ⟨[], L, rfl, Or.inl ⟨e, rfl⟩⟩
  · obtain ⟨A0, B, e2⟩ := List.append_of_mem ha
    exact ⟨A0 ++ [a], B, by rw [e2]; simp, Or.inr ⟨A0, a, e, rfl⟩⟩
theorem tr_putL_eq {ky : Nat → Nat} {v c : Nat} {A T U : List Nat} (hnd : (A ++ (T ++ U)).Nodup) (hA : tr_cut v A) (hT : ∀ x ∈ T, ky c < ky x) (hU : ∀ x U', U = x :: U' → ¬ ky c < ky x) : tr_putL ky v c (A ++ (T ++ U)) = A ++ (T ++ c :: U) := by
  rcases hA with ⟨e, eA⟩ | ⟨A0, a, e, eA⟩
  · subst eA
    show (if v = 0 then tr_insB ky c ([] ++ (T ++ U)) else _) = _
    rw [if_pos e, List.nil_append, tr_insB_eq ky c U hU T hT]
    rfl
  · subst eA
    have e2 : A0 ++ [a] ++ (T ++ U) = A0 ++ a :: (T ++ U) := by simp
    have ha : a ∉ A0 := by
      rw [e2] at hnd
      intro h
      exact (List.nodup_append.mp hnd).2.2 a h a List.mem_cons_self rfl
    show (if v = 0 then _ else tr_putA ky (v - 1) c (A0 ++ [a] ++ (T ++ U))) = _
    rw [if_neg (by omega), e2, show v - 1 = a by omega, tr_putA_eq ky a c _ A0 ha, tr_insB_eq ky c U hU T hT]
    simp
end
section
/-! ROWS of this claim: numbers as naturals (nI), nodes (iI), booleans (bI); worlds as a function of their contents -/
set_option maxRecDepth 100000
def bI (b : Bool) : Int32 := if b = true then 1 else 0
def iI (v : Nat) : Int32 := nI v - 1
theorem bI_t : bI true = 1 := rfl
theorem bI_f : bI false = 0 := rfl
theorem bI_0 {b : Bool} : bI b = 0 ↔ b = false := by cases b <;> decide
theorem bI_n0 {b : Bool} : ¬ bI b = 0 ↔ b = true := by cases b <;> decide
theorem bI_nar (b : Bool) : vp_nar .boolean (bI b) = bI b := by cases b <;> decide +kernel
theorem bI_narrow (b : Bool) : narrow .boolean (.int (bI b)) = .int (bI b) := by cases b <;> rfl
theorem iI_0 : iI 0 = -1 := by decide +kernel
theorem iI_s (c : Nat) : iI (c + 1) = nI c := nI_pred c
theorem iI_add (a v : Nat) : nI (a + 1) + iI v = nI (a + v) := by
  unfold iI
  rw [nI_succ, ← nI_add]
  grind
theorem iI_lt {v : Nat} (h : v < 2 ^ 31) : iI v < 0 ↔ v = 0 := by
  cases v with
  | zero => rw [iI_0]; decide
  | succ c =>
    rw [iI_s]
    exact ⟨fun q => absurd q (nI_pos (by omega)), fun q => by omega⟩
theorem iI_eq {v w : Nat} (hv : v < 2 ^ 31) (hw : w < 2 ^ 31) : iI v = iI w ↔ v = w := by
  unfold iI
  constructor
  · intro h
    have h2 : nI v = nI w := by grind
    exact (nI_eq hv hw).mp h2
  · intro h
    rw [h]
theorem nI_inc (a : Nat) : nI a + Int32.ofInt 1 = nI (a + 1) := nI_1 a
theorem nI_dec (a : Nat) : nI (a + 1) + Int32.ofInt (-1) = nI a := by
  rw [nI_succ, show Int32.ofInt (-1) = (-1 : Int32) from by decide +kernel]
  grind
section TR
variable {p : Program} {l : Launch} {e : Env} {R : Room} {s : State} {m : MethodId} {args : Array Value} {below : List Frame} {meth : Method} {c : Code} {H : Heap} {locs : List Loc} {cells slots : Nat} {Q : State → Prop}
variable {cc : ByteArray} {pc : Nat} {ls : Array Slot} {rest : List Value}
theorem tr_iadd (hx : p.tables.exec = Jvm.exec) (hb : c.code = cc) {x y z : Int32} (hdg : decode cc pc = .ok (.iadd, 1)) (hz : x + y = z)
    (k : W p l e R s m args below meth c H locs cells slots Q (F0 m (pc + 1) ls (.int z :: rest))) : W p l e R s m args below meth c H locs cells slots Q (F0 m pc ls (.int y :: .int x :: rest)) := by
  subst hz
  exact lv_iadd hx hb hdg k
theorem tr_isub (hx : p.tables.exec = Jvm.exec) (hb : c.code = cc) {x y z : Int32} (hdg : decode cc pc = .ok (.isub, 1)) (hz : x - y = z)
    (k : W p l e R s m args below meth c H locs cells slots Q (F0 m (pc + 1) ls (.int z :: rest))) : W p l e R s m args below meth c H locs cells slots Q (F0 m pc ls (.int y :: .int x :: rest)) := by
  subst hz
  exact lv_isub hx hb hdg k
theorem tr_imul (hx : p.tables.exec = Jvm.exec) (hb : c.code = cc) {x y z : Int32} (hdg : decode cc pc = .ok (.imul, 1)) (hz : x * y = z)
    (k : W p l e R s m args below meth c H locs cells slots Q (F0 m (pc + 1) ls (.int z :: rest))) : W p l e R s m args below meth c H locs cells slots Q (F0 m pc ls (.int y :: .int x :: rest)) := by
  subst hz
  exact lv_imul hx hb hdg k
variable {off : Int} {tgt : Nat}
theorem tr_cge (hx : p.tables.exec = Jvm.exec) (hb : c.code = cc) {a b : Nat} (hdg : decode cc pc = .ok (.if_icmp .ge off, 3)) (ht : (pc : Int) + off = (tgt : Int)) (h1 : a < 2 ^ 31) (h2 : b < 2 ^ 31)
    (kt : b ≤ a → W p l e R s m args below meth c H locs cells slots Q (F0 m tgt ls rest)) (kf : a < b → W p l e R s m args below meth c H locs cells slots Q (F0 m (pc + 3) ls rest)) : W p l e R s m args below meth c H locs cells slots Q (F0 m pc ls (.int (nI b) :: .int (nI a) :: rest)) :=
  lv_icmp_ge hx hb hdg ht (fun h => kt ((nI_leI h2 h1).mp h)) (fun h => kf (Nat.not_le.mp fun z => h ((nI_leI h2 h1).mpr z)))
theorem tr_cgt (hx : p.tables.exec = Jvm.exec) (hb : c.code = cc) {a b : Nat} (hdg : decode cc pc = .ok (.if_icmp .gt off, 3)) (ht : (pc : Int) + off = (tgt : Int)) (h1 : a < 2 ^ 31) (h2 : b < 2 ^ 31)
    (kt : b < a → W p l e R s m args below meth c H locs cells slots Q (F0 m tgt ls rest)) (kf : a ≤ b → W p l e R s m args below meth c H locs cells slots Q (F0 m (pc + 3) ls rest)) : W p l e R s m args below meth c H locs cells slots Q (F0 m pc ls (.int (nI b) :: .int (nI a) :: rest)) :=
  lv_icmp_gt hx hb hdg ht (fun h => kt ((nI_ltI h2 h1).mp h)) (fun h => kf (Nat.not_lt.mp fun z => h ((nI_ltI h2 h1).mpr z)))
theorem tr_cle (hx : p.tables.exec = Jvm.exec) (hb : c.code = cc) {a b : Nat} (hdg : decode cc pc = .ok (.if_icmp .le off, 3)) (ht : (pc : Int) + off = (tgt : Int)) (h1 : a < 2 ^ 31) (h2 : b < 2 ^ 31)
    (kt : a ≤ b → W p l e R s m args below meth c H locs cells slots Q (F0 m tgt ls rest)) (kf : b < a → W p l e R s m args below meth c H locs cells slots Q (F0 m (pc + 3) ls rest)) : W p l e R s m args below meth c H locs cells slots Q (F0 m pc ls (.int (nI b) :: .int (nI a) :: rest)) :=
  lv_icmp_le hx hb hdg ht (fun h => kt ((nI_leI h1 h2).mp h)) (fun h => kf (Nat.not_le.mp fun z => h ((nI_leI h1 h2).mpr z)))
theorem tr_clt (hx : p.tables.exec = Jvm.exec) (hb : c.code = cc) {a b : Nat} (hdg : decode cc pc = .ok (.if_icmp .lt off, 3)) (ht : (pc : Int) + off = (tgt : Int)) (h1 : a < 2 ^ 31) (h2 : b < 2 ^ 31)
    (kt : a < b → W p l e R s m args below meth c H locs cells slots Q (F0 m tgt ls rest)) (kf : b ≤ a → W p l e R s m args below meth c H locs cells slots Q (F0 m (pc + 3) ls rest)) : W p l e R s m args below meth c H locs cells slots Q (F0 m pc ls (.int (nI b) :: .int (nI a) :: rest)) :=
  lv_icmp_lt hx hb hdg ht (fun h => kt ((nI_ltI h1 h2).mp h)) (fun h => kf (Nat.not_lt.mp fun z => h ((nI_ltI h1 h2).mpr z)))
theorem tr_ceq (hx : p.tables.exec = Jvm.exec) (hb : c.code = cc) {a b : Nat} (hdg : decode cc pc = .ok (.if_icmp .eq off, 3)) (ht : (pc : Int) + off = (tgt : Int)) (h1 : a < 2 ^ 31) (h2 : b < 2 ^ 31)
    (kt : a = b → W p l e R s m args below meth c H locs cells slots Q (F0 m tgt ls rest)) (kf : a ≠ b → W p l e R s m args below meth c H locs cells slots Q (F0 m (pc + 3) ls rest)) : W p l e R s m args below meth c H locs cells slots Q (F0 m pc ls (.int (nI b) :: .int (nI a) :: rest)) :=
  lv_icmp_eq hx hb hdg ht (fun h => kt ((nI_eq h1 h2).mp h)) (fun h => kf (fun z => h ((nI_eq h1 h2).mpr z)))
theorem tr_cne (hx : p.tables.exec = Jvm.exec) (hb : c.code = cc) {a b : Nat} (hdg : decode cc pc = .ok (.if_icmp .ne off, 3)) (ht : (pc : Int) + off = (tgt : Int)) (h1 : a < 2 ^ 31) (h2 : b < 2 ^ 31)
    (kt : a ≠ b → W p l e R s m args below meth c H locs cells slots Q (F0 m tgt ls rest)) (kf : a = b → W p l e R s m args below meth c H locs cells slots Q (F0 m (pc + 3) ls rest)) : W p l e R s m args below meth c H locs cells slots Q (F0 m pc ls (.int (nI b) :: .int (nI a) :: rest)) :=
  lv_icmp_ne hx hb hdg ht (fun h => kt (fun z => h ((nI_eq h1 h2).mpr z))) (fun h => kf ((nI_eq h1 h2).mp h))
theorem tr_cneI (hx : p.tables.exec = Jvm.exec) (hb : c.code = cc) {a b : Nat} (hdg : decode cc pc = .ok (.if_icmp .ne off, 3)) (ht : (pc : Int) + off = (tgt : Int)) (h1 : a < 2 ^ 31) (h2 : b < 2 ^ 31)
    (kt : a ≠ b → W p l e R s m args below meth c H locs cells slots Q (F0 m tgt ls rest)) (kf : a = b → W p l e R s m args below meth c H locs cells slots Q (F0 m (pc + 3) ls rest)) : W p l e R s m args below meth c H locs cells slots Q (F0 m pc ls (.int (iI b) :: .int (iI a) :: rest)) :=
  lv_icmp_ne hx hb hdg ht (fun h => kt (fun z => h ((iI_eq h1 h2).mpr z))) (fun h => kf ((iI_eq h1 h2).mp h))
theorem tr_feqB (hx : p.tables.exec = Jvm.exec) (hb : c.code = cc) {b : Bool} (hdg : decode cc pc = .ok (.ifCond .eq off, 3)) (ht : (pc : Int) + off = (tgt : Int))
    (kt : b = false → W p l e R s m args below meth c H locs cells slots Q (F0 m tgt ls rest)) (kf : b = true → W p l e R s m args below meth c H locs cells slots Q (F0 m (pc + 3) ls rest)) : W p l e R s m args below meth c H locs cells slots Q (F0 m pc ls (.int (bI b) :: rest)) :=
  lv_if_eq hx hb hdg ht (fun h => kt (bI_0.mp h)) (fun h => kf (bI_n0.mp h))
theorem tr_fneB (hx : p.tables.exec = Jvm.exec) (hb : c.code = cc) {b : Bool} (hdg : decode cc pc = .ok (.ifCond .ne off, 3)) (ht : (pc : Int) + off = (tgt : Int))
    (kt : b = true → W p l e R s m args below meth c H locs cells slots Q (F0 m tgt ls rest)) (kf : b = false → W p l e R s m args below meth c H locs cells slots Q (F0 m (pc + 3) ls rest)) : W p l e R s m args below meth c H locs cells slots Q (F0 m pc ls (.int (bI b) :: rest)) :=
  lv_if_ne hx hb hdg ht (fun h => kt (bI_n0.mp h)) (fun h => kf (bI_0.mp h))
theorem tr_fneN (hx : p.tables.exec = Jvm.exec) (hb : c.code = cc) {a : Nat} (hdg : decode cc pc = .ok (.ifCond .ne off, 3)) (ht : (pc : Int) + off = (tgt : Int)) (h1 : a < 2 ^ 31)
    (kt : a ≠ 0 → W p l e R s m args below meth c H locs cells slots Q (F0 m tgt ls rest)) (kf : a = 0 → W p l e R s m args below meth c H locs cells slots Q (F0 m (pc + 3) ls rest)) : W p l e R s m args below meth c H locs cells slots Q (F0 m pc ls (.int (nI a) :: rest)) :=
  lv_if_ne hx hb hdg ht (fun h => kt (fun z => h (by rw [z]; exact nI_0))) (fun h => kf ((nI_eq h1 (by decide)).mp (h.trans nI_0.symm)))
theorem tr_fltI (hx : p.tables.exec = Jvm.exec) (hb : c.code = cc) {v : Nat} (hdg : decode cc pc = .ok (.ifCond .lt off, 3)) (ht : (pc : Int) + off = (tgt : Int)) (h1 : v < 2 ^ 31)
    (kt : v = 0 → W p l e R s m args below meth c H locs cells slots Q (F0 m tgt ls rest)) (kf : v ≠ 0 → W p l e R s m args below meth c H locs cells slots Q (F0 m (pc + 3) ls rest)) : W p l e R s m args below meth c H locs cells slots Q (F0 m pc ls (.int (iI v) :: rest)) :=
  lv_if_lt hx hb hdg ht (fun h => kt ((iI_lt h1).mp h)) (fun h => kf (fun z => h ((iI_lt h1).mpr z)))
/-! worlds -/
variable {D : va_G} {cl : List vw_C} {A : Nat → Prop} {a : Nat} {tys : List (ClassId × FieldType)} {ws ws' : va_W} {H0 : Heap}
theorem tr_ald (hx : p.tables.exec = Jvm.exec) (hb : c.code = cc) (hK : va_K D cl tys s) (hP : va_P D cl ws H) (q0 t0 : Nat) {cA : ClassId} {n : Nat} {f : Nat → Int32} (ha : ws[q0]? = some (a, .inl (cA, n, .inl f))) (ht : tys[t0]? = some (cA, .int)) {j : Nat} {v : Int32} (hn : n < 2 ^ 31) (hj : j < n) (hv : f j = v) (hdg : decode cc pc = .ok (.iaload, 1))
    (kk : W p l e R s m args below meth c H locs cells slots Q (F0 m (pc + 1) ls (.int v :: rest))) : W p l e R s m args below meth c H locs cells slots Q (F0 m pc ls (.int (nI j) :: .ref a :: rest)) := by
  refine va_iald hx hb hK hP q0 t0 ha ht (vp_in_nI hj hn) hdg ?_
  rw [nI_clamp (by omega), hv]
  exact kk
theorem tr_zld (hx : p.tables.exec = Jvm.exec) (hb : c.code = cc) (hK : va_K D cl tys s) (hP : va_P D cl ws H) (q0 t0 : Nat) {cA : ClassId} {n : Nat} {f : Nat → Int32} (ha : ws[q0]? = some (a, .inl (cA, n, .inl f))) (ht : tys[t0]? = some (cA, .boolean)) {j : Nat} {v : Int32} (hn : n < 2 ^ 31) (hj : j < n) (hv : f j = v) (hdg : decode cc pc = .ok (.baload, 1))
    (kk : W p l e R s m args below meth c H locs cells slots Q (F0 m (pc + 1) ls (.int v :: rest))) : W p l e R s m args below meth c H locs cells slots Q (F0 m pc ls (.int (nI j) :: .ref a :: rest)) := by
  refine va_zald hx hb hK hP q0 t0 ha ht (vp_in_nI hj hn) hdg ?_
  rw [nI_clamp (by omega), hv]
  exact kk
theorem tr_ast (hx : p.tables.exec = Jvm.exec) (hb : c.code = cc) (hK : va_K D cl tys s) (hP : va_P D cl ws H) (hD : va_D A ws) (hS : va_S A H0 H locs) (q0 t0 : Nat) {cA : ClassId} {n : Nat} {f : Nat → Int32} (ha : ws[q0]? = some (a, .inl (cA, n, .inl f))) (ht : tys[t0]? = some (cA, .int)) {j : Nat} {x : Int32} (hn : n < 2 ^ 31) (hj : j < n) (hw : ws.set q0 (a, .inl (cA, n, .inl (upd f j x))) = ws') (hdg : decode cc pc = .ok (.iastore, 1))
    (kk : ∀ (H1 : Heap) (locs1 : List Loc), va_P D cl ws' H1 → va_D A ws' → va_S A H0 H1 locs1 → W p l e R s m args below meth c H1 locs1 cells slots Q (F0 m (pc + 1) ls rest)) : W p l e R s m args below meth c H locs cells slots Q (F0 m pc ls (.int x :: .int (nI j) :: .ref a :: rest)) := by
  subst hw
  refine va_iast hx hb hK hP hD hS q0 t0 ha ht (vp_in_nI hj hn) hdg ?_
  rw [nI_clamp (by omega)]
  exact kk
theorem tr_zst (hx : p.tables.exec = Jvm.exec) (hb : c.code = cc) (hK : va_K D cl tys s) (hP : va_P D cl ws H) (hD : va_D A ws) (hS : va_S A H0 H locs) (q0 t0 : Nat) {cA : ClassId} {n : Nat} {f : Nat → Int32} (ha : ws[q0]? = some (a, .inl (cA, n, .inl f))) (ht : tys[t0]? = some (cA, .boolean)) {j : Nat} {x : Int32} (hn : n < 2 ^ 31) (hj : j < n) (hnar : vp_nar .boolean x = x) (hw : ws.set q0 (a, .inl (cA, n, .inl (upd f j x))) = ws') (hdg : decode cc pc = .ok (.bastore, 1))
    (kk : ∀ (H1 : Heap) (locs1 : List Loc), va_P D cl ws' H1 → va_D A ws' → va_S A H0 H1 locs1 → W p l e R s m args below meth c H1 locs1 cells slots Q (F0 m (pc + 1) ls rest)) : W p l e R s m args below meth c H locs cells slots Q (F0 m pc ls (.int x :: .int (nI j) :: .ref a :: rest)) := by
  subst hw
  refine va_zast hx hb hK hP hD hS q0 t0 ha ht (vp_in_nI hj hn) hdg ?_
  rw [nI_clamp (by omega), hnar]
  exact kk
end TR
/-! contracts: a world that is a function wv of its contents u; nothing is made -/
def tr_pre (D : va_G) (cl : List vw_C) (tys : List (ClassId × FieldType)) (ws : va_W) (sz : Nat) (U : State) : Prop := U.heap.size = sz ∧ va_P D cl ws U.heap ∧ va_K D cl tys U ∧ va_D (fun _ => True) ws
def tr_B (D : va_G) (cl : List vw_C) (tys : List (ClassId × FieldType)) {σ : Type} (wv : σ → va_W) (A : Nat → Prop) (u : σ) (t : State) : Prop := va_P D cl (wv u) t.heap ∧ va_K D cl tys t ∧ va_D A (wv u)
abbrev tr_rm (fr lo : Nat) : Room := { frames := fr, cells := 0, slots := 0, locals := lo }
/-- an int or boolean answer -/
def tr_MI (l : Launch) (y : MethodName) (b : ByteArray) (L : Nat) (ret : Option FieldType) (fr lo : Nat) (D : va_G) (cl : List vw_C) (tys : List (ClassId × FieldType)) {σ : Type} (wv : σ → va_W) (As : List Value) (u : σ) (post : Int32 → σ → Prop) : Prop :=
  ∀ sz, Met l y (ws_ y b L ret) (tr_rm fr lo) (va_Pc As (tr_pre D cl tys (wv u) sz)) (va_Qi post (tr_B D cl tys wv (va_A (wv u) sz)) (va_A (wv u) sz)) 0 0 (va_A (wv u) sz)
/-- no answer -/
def tr_MV (l : Launch) (y : MethodName) (b : ByteArray) (L : Nat) (fr lo : Nat) (D : va_G) (cl : List vw_C) (tys : List (ClassId × FieldType)) {σ : Type} (wv : σ → va_W) (As : List Value) (u : σ) (post : σ → Prop) : Prop :=
  ∀ sz, Met l y (ws_ y b L none) (tr_rm fr lo) (va_Pc As (tr_pre D cl tys (wv u) sz)) (va_Qv post (tr_B D cl tys wv (va_A (wv u) sz)) (va_A (wv u) sz)) 0 0 (va_A (wv u) sz)
/-- an answer, and the world stays -/
def tr_MR (l : Launch) (y : MethodName) (b : ByteArray) (L : Nat) (ret : Option FieldType) (fr lo : Nat) (D : va_G) (cl : List vw_C) (tys : List (ClassId × FieldType)) {σ : Type} (wv : σ → va_W) (As : List Value) (u : σ) (post : Int32 → Prop) : Prop :=
  tr_MI l y b L ret fr lo D cl tys wv As u (fun r u' => u' = u ∧ post r)
/-- a static method that looks at its arguments alone -/
def tr_MS (l : Launch) (y : MethodName) (b : ByteArray) (L : Nat) (ret : Option FieldType) (fr lo : Nat) (As : List Value) (post : Int32 → Prop) : Prop :=
  ∀ sz, Met l y (ws_ y b L ret) (tr_rm fr lo) (va_Pc As (fun U => U.heap.size = sz)) (va_Qi (fun r (_ : Unit) => post r) (fun _ _ => True) (fun q => sz ≤ q)) 0 0 (fun q => sz ≤ q)
section TRC
variable {l : Launch} {D : va_G} {cl : List vw_C} {tys : List (ClassId × FieldType)} {σ : Type} {wv : σ → va_W} {u : σ} {y : MethodName} {bytes : ByteArray} {maxL : Nat} {ret : Option FieldType} {fr lo : Nat} {As : List Value}
theorem tr_enterI {post : Int32 → σ → Prop} (own : String) (hown : y.cls = own) (hy : plainName y.cls = true) (hlen : (lg_sl As).length ≤ maxL)
    (body : ∀ (p : Program) (e : Env) (s : State) (m : MethodId) (below : List Frame) (meth : Method) (c : Code) (A : Nat → Prop) (ls : Array Slot), CallFix p m c bytes maxL s As.toArray lw_all own → meth.sig.returnType = ret → meth.locks = false → va_K D cl tys s → va_P D cl (wv u) s.heap → va_D A (wv u) → va_S A s.heap s.heap [] → (∀ q : Nat, s.heap.size ≤ q → A q) → lv_has ls maxL (lv_args 0 As) →
      W p l e (tr_rm fr lo) s m As.toArray below meth c s.heap [] 0 0 (MQ below (va_Qi post (tr_B D cl tys wv A) A) As.toArray s 0 0 A) (F0 m 0 ls [])) : tr_MI l y bytes maxL ret fr lo D cl tys wv As u post := by
  intro sz
  refine Met.ofW (cc := bytes) (maxL := maxL) (ret := ret) hy rfl ?_
  intro p e s m args below meth c s₁ B hml hv
  obtain ⟨rfl, hsz, hP, hK, hD0⟩ := hv
  have hts := atoms_spec (ws := ws_ y bytes maxL ret) B.pre
  have hts : ∀ w ∈ lw_all, w.before _ s = true := fun w h => hts w (List.mem_cons_of_mem _ h)
  have ho : s.vm.findClass own = some m.cls := by rw [← hown]; exact findClass_of_methodNamed B.named
  subst hsz
  have hD := hD0.self (sz := s.heap.size)
  have hA : ∀ q : Nat, s.heap.size ≤ q → va_A (wv u) s.heap.size q := fun q h => Or.inr h
  have hl := lv_entry As (n := maxL) hlen
  rw [lg_entry_eq]
  exact body p e s m below meth c _ _ ⟨B.exec, B.bytes, hml, ho, hts⟩ B.returns B.notSynchronized hK hP hD va_S.rf hA hl
theorem tr_enterV {post : σ → Prop} (own : String) (hown : y.cls = own) (hy : plainName y.cls = true) (hlen : (lg_sl As).length ≤ maxL)
    (body : ∀ (p : Program) (e : Env) (s : State) (m : MethodId) (below : List Frame) (meth : Method) (c : Code) (A : Nat → Prop) (ls : Array Slot), CallFix p m c bytes maxL s As.toArray lw_all own → meth.sig.returnType = none → meth.locks = false → va_K D cl tys s → va_P D cl (wv u) s.heap → va_D A (wv u) → va_S A s.heap s.heap [] → (∀ q : Nat, s.heap.size ≤ q → A q) → lv_has ls maxL (lv_args 0 As) →
      W p l e (tr_rm fr lo) s m As.toArray below meth c s.heap [] 0 0 (MQ below (va_Qv post (tr_B D cl tys wv A) A) As.toArray s 0 0 A) (F0 m 0 ls [])) : tr_MV l y bytes maxL fr lo D cl tys wv As u post := by
  intro sz
  refine Met.ofW (cc := bytes) (maxL := maxL) (ret := none) hy rfl ?_
  intro p e s m args below meth c s₁ B hml hv
  obtain ⟨rfl, hsz, hP, hK, hD0⟩ := hv
  have hts := atoms_spec (ws := ws_ y bytes maxL none) B.pre
  have hts : ∀ w ∈ lw_all, w.before _ s = true := fun w h => hts w (List.mem_cons_of_mem _ h)
  have ho : s.vm.findClass own = some m.cls := by rw [← hown]; exact findClass_of_methodNamed B.named
  subst hsz
  have hD := hD0.self (sz := s.heap.size)
  have hA : ∀ q : Nat, s.heap.size ≤ q → va_A (wv u) s.heap.size q := fun q h => Or.inr h
  have hl := lv_entry As (n := maxL) hlen
  rw [lg_entry_eq]
  exact body p e s m below meth c _ _ ⟨B.exec, B.bytes, hml, ho, hts⟩ B.returns B.notSynchronized hK hP hD va_S.rf hA hl
theorem tr_enterS {post : Int32 → Prop} (own : String) (hown : y.cls = own) (hy : plainName y.cls = true) (hlen : (lg_sl As).length ≤ maxL)
    (body : ∀ (p : Program) (e : Env) (s : State) (m : MethodId) (below : List Frame) (meth : Method) (c : Code) (A : Nat → Prop) (ls : Array Slot), CallFix p m c bytes maxL s As.toArray lw_all own → meth.sig.returnType = ret → meth.locks = false → va_S A s.heap s.heap [] → lv_has ls maxL (lv_args 0 As) →
      W p l e (tr_rm fr lo) s m As.toArray below meth c s.heap [] 0 0 (MQ below (va_Qi (fun r (_ : Unit) => post r) (fun _ _ => True) A) As.toArray s 0 0 A) (F0 m 0 ls [])) : tr_MS l y bytes maxL ret fr lo As post := by
  intro sz
  refine Met.ofW (cc := bytes) (maxL := maxL) (ret := ret) hy rfl ?_
  intro p e s m args below meth c s₁ B hml hv
  obtain ⟨rfl, hsz⟩ := hv
  have hts := atoms_spec (ws := ws_ y bytes maxL ret) B.pre
  have hts : ∀ w ∈ lw_all, w.before _ s = true := fun w h => hts w (List.mem_cons_of_mem _ h)
  have ho : s.vm.findClass own = some m.cls := by rw [← hown]; exact findClass_of_methodNamed B.named
  have hl := lv_entry As (n := maxL) hlen
  rw [lg_entry_eq]
  exact body p e s m below meth c _ _ ⟨B.exec, B.bytes, hml, ho, hts⟩ B.returns B.notSynchronized va_S.rf hl
variable {p : Program} {e : Env} {R : Room} {s : State} {m : MethodId} {args : Array Value} {below : List Frame} {meth : Method} {c : Code} {H : Heap} {locs : List Loc} {cells slots : Nat} {Q : State → Prop}
variable {cc : ByteArray} {pc nL n index : Nat} {ls : Array Slot} {rest st0 : List Value} {A : Nat → Prop} {own C : String}
theorem tr_iret {post : Int32 → σ → Prop} {v : Int32} (hx : p.tables.exec = Jvm.exec) (hb : c.code = cc) (hr : meth.sig.returnType = some .int) (hlocks : meth.locks = false) (hK : va_K D cl tys s) (hP : va_P D cl (wv u) H) (hD : va_D A (wv u)) (hS : va_S A s.heap H locs) (hdg : decode cc pc = .ok (.ireturn, 1)) (hpost : post v u) :
    W p l e R s m args below meth c H locs cells slots (MQ below (va_Qi post (tr_B D cl tys wv A) A) args s cells slots A) (F0 m pc ls [.int v]) :=
  W.iret (v := v) hx hb hr (fun t ht hW => ⟨⟨v, u, rfl, hpost, by rw [ht]; exact hP, va_K.moved hW.alike hK, hD⟩, hS.F ht⟩) hS.2.2 hdg hlocks
theorem tr_zret {post : Int32 → σ → Prop} {v : Int32} {ty : FieldType} (hx : p.tables.exec = Jvm.exec) (hb : c.code = cc) (hr : meth.sig.returnType = some ty) (hn : narrow ty (.int v) = .int v) (hlocks : meth.locks = false) (hK : va_K D cl tys s) (hP : va_P D cl (wv u) H) (hD : va_D A (wv u)) (hS : va_S A s.heap H locs) (hdg : decode cc pc = .ok (.ireturn, 1)) (hpost : post v u) :
    W p l e R s m args below meth c H locs cells slots (MQ below (va_Qi post (tr_B D cl tys wv A) A) args s cells slots A) (F0 m pc ls [.int v]) :=
  W.zret (v := v) hx hb hr hn (fun t ht hW => ⟨⟨v, u, rfl, hpost, by rw [ht]; exact hP, va_K.moved hW.alike hK, hD⟩, hS.F ht⟩) hS.2.2 hdg hlocks
theorem tr_sret {post : Int32 → Prop} {v : Int32} {ty : FieldType} (hx : p.tables.exec = Jvm.exec) (hb : c.code = cc) (hr : meth.sig.returnType = some ty) (hn : narrow ty (.int v) = .int v) (hlocks : meth.locks = false) (hS : va_S A s.heap H locs) (hdg : decode cc pc = .ok (.ireturn, 1)) (hpost : post v) :
    W p l e R s m args below meth c H locs cells slots (MQ below (va_Qi (fun r (_ : Unit) => post r) (fun _ _ => True) A) args s cells slots A) (F0 m pc ls [.int v]) :=
  W.zret (v := v) hx hb hr hn (fun t ht hW => ⟨⟨v, (), rfl, hpost, trivial⟩, hS.F ht⟩) hS.2.2 hdg hlocks
theorem tr_vret {post : σ → Prop} (hx : p.tables.exec = Jvm.exec) (hb : c.code = cc) (hr : meth.sig.returnType = none) (hlocks : meth.locks = false) (hK : va_K D cl tys s) (hP : va_P D cl (wv u) H) (hD : va_D A (wv u)) (hS : va_S A s.heap H locs) (hdg : decode cc pc = .ok (.return_, 1)) (hpost : post u) :
    W p l e R s m args below meth c H locs cells slots (MQ below (va_Qv post (tr_B D cl tys wv A) A) args s cells slots A) (F0 m pc ls []) :=
  W.vret hx hb hr (fun t ht hW => ⟨⟨u, rfl, hpost, by rw [ht]; exact hP, va_K.moved hW.alike hK, hD⟩, hS.F ht⟩) hS.2.2 hdg hlocks
theorem tr_freeA (hD : va_D A (wv u)) (hS : va_S A s.heap H locs) (hA : ∀ q : Nat, s.heap.size ≤ q → A q) : ∀ q, va_A (wv u) H.size q → A q := by
  intro q h
  rcases h with ⟨k, e, h⟩ | h
  · exact hD.2 k _ h
  · exact hA q (Nat.le_trans hS.1 h)
theorem tr_blind (As' : List Value) (ws : va_W) (sz : Nat) : FrameBlind (va_Pc As' (tr_pre D cl tys ws sz)) := fun a U g mk q => by
  obtain ⟨q0, q1, qP, qK, qD⟩ := q
  exact ⟨q0, q1, qP, va_K.moved (u := U) (U := U.calling g mk a) (Vm.Alike.refl U.vm) qK, qD⟩
theorem tr_callI {post : Int32 → σ → Prop} {b : Nat} {T : u_T} {N ci : Nat} {fs : List Value} (S : CallFix p m c cc nL s args lw_all own) (hM : tr_MI l y bytes maxL ret fr lo D cl tys wv (.ref b :: As) u post) (n : Nat) (hV : GoodIn lw_all (wsV own index C y (ws_ y bytes maxL ret)))
    (hd : y.cls = C ∧ y.cls ≠ "java/lang/invoke/MethodHandle" ∧ y.cls ≠ "java/lang/invoke/VarHandle" ∧ (parseMethodDescriptor y.desc).map (fun d => d.parameters.length) = some n) (hR : fr + 1 ≤ R.frames ∧ 8 + (maxL + 11) + lo ≤ R.locals)
    (hK : va_K D cl tys s) (hP : va_P D cl (wv u) H) (hD : va_D A (wv u)) (hS : va_S A s.heap H locs) (hA : ∀ q : Nat, s.heap.size ≤ q → A q) (hrecv : (wv u)[0]? = some (b, .inr (ci, fs))) (hc : cl[ci]? = some (C, T, N)) (hn : As.length = n) (hl : ls.size = nL) (hst : st0 = As.reverse ++ .ref b :: rest) (hw : (rest.map fun v => v.category).sum ≤ 8) (hdg : decode cc pc = .ok (.invokevirtual index, 3)) (hf : cells ≤ R.cells ∧ slots ≤ R.slots)
    (kk : ∀ (r : Int32) (u' : σ) (H1 : Heap) (locs1 : List Loc), post r u' → va_P D cl (wv u') H1 → va_D A (wv u') → va_S A s.heap H1 locs1 → W p l e R s m args below meth c H1 locs1 cells slots Q (F0 m (pc + 3) ls (.int r :: rest))) : W p l e R s m args below meth c H locs cells slots Q (F0 m pc ls st0) := by
  have hFc := tr_freeA hD hS hA
  refine va_calli (va_runV (As := As) (rest := rest) S (hM H.size) (cwV n S.2.2.2.2 hV rfl rfl rfl hd hR) ⟨tr_blind _ _ _, va_recv hK hP hc hrecv, fun U hU hW => ⟨rfl, by rw [hU], by rw [hU]; exact hP, va_K.moved hW.alike hK, hD.weaken (fun _ _ _ _ => trivial)⟩⟩ rfl hn hl hst (lv_room hw) hdg hf) hS (fun q _ h => hFc q h) hFc (fun r u' t H1 locs1 ht hvm hpost hB hz hk hS1 => ?_)
  obtain ⟨hP1, hK1, hD1⟩ := hB
  rw [ht] at hP1
  exact kk r u' H1 locs1 hpost hP1 (hD1.weaken (fun k q _ h => hFc _ h)) hS1
theorem tr_callV {post : σ → Prop} {b : Nat} {T : u_T} {N ci : Nat} {fs : List Value} (S : CallFix p m c cc nL s args lw_all own) (hM : tr_MV l y bytes maxL fr lo D cl tys wv (.ref b :: As) u post) (n : Nat) (hV : GoodIn lw_all (wsV own index C y (ws_ y bytes maxL none)))
    (hd : y.cls = C ∧ y.cls ≠ "java/lang/invoke/MethodHandle" ∧ y.cls ≠ "java/lang/invoke/VarHandle" ∧ (parseMethodDescriptor y.desc).map (fun d => d.parameters.length) = some n) (hR : fr + 1 ≤ R.frames ∧ 8 + (maxL + 11) + lo ≤ R.locals)
    (hK : va_K D cl tys s) (hP : va_P D cl (wv u) H) (hD : va_D A (wv u)) (hS : va_S A s.heap H locs) (hA : ∀ q : Nat, s.heap.size ≤ q → A q) (hrecv : (wv u)[0]? = some (b, .inr (ci, fs))) (hc : cl[ci]? = some (C, T, N)) (hn : As.length = n) (hl : ls.size = nL) (hst : st0 = As.reverse ++ .ref b :: rest) (hw : (rest.map fun v => v.category).sum ≤ 8) (hdg : decode cc pc = .ok (.invokevirtual index, 3)) (hf : cells ≤ R.cells ∧ slots ≤ R.slots)
    (kk : ∀ (u' : σ) (H1 : Heap) (locs1 : List Loc), post u' → va_P D cl (wv u') H1 → va_D A (wv u') → va_S A s.heap H1 locs1 → W p l e R s m args below meth c H1 locs1 cells slots Q (F0 m (pc + 3) ls rest)) : W p l e R s m args below meth c H locs cells slots Q (F0 m pc ls st0) := by
  have hFc := tr_freeA hD hS hA
  refine va_callv (va_runV (As := As) (rest := rest) S (hM H.size) (cwV n S.2.2.2.2 hV rfl rfl rfl hd hR) ⟨tr_blind _ _ _, va_recv hK hP hc hrecv, fun U hU hW => ⟨rfl, by rw [hU], by rw [hU]; exact hP, va_K.moved hW.alike hK, hD.weaken (fun _ _ _ _ => trivial)⟩⟩ rfl hn hl hst (lv_room hw) hdg hf) hS (fun q _ h => hFc q h) hFc (fun u' t H1 locs1 ht hvm hpost hB hz hk hS1 => ?_)
  obtain ⟨hP1, hK1, hD1⟩ := hB
  rw [ht] at hP1
  exact kk u' H1 locs1 hpost hP1 (hD1.weaken (fun k q _ h => hFc _ h)) hS1
theorem tr_callR {post : Int32 → Prop} {b : Nat} {T : u_T} {N ci : Nat} {fs : List Value} (S : CallFix p m c cc nL s args lw_all own) (hM : tr_MR l y bytes maxL ret fr lo D cl tys wv (.ref b :: As) u post) (n : Nat) (hV : GoodIn lw_all (wsV own index C y (ws_ y bytes maxL ret)))
    (hd : y.cls = C ∧ y.cls ≠ "java/lang/invoke/MethodHandle" ∧ y.cls ≠ "java/lang/invoke/VarHandle" ∧ (parseMethodDescriptor y.desc).map (fun d => d.parameters.length) = some n) (hR : fr + 1 ≤ R.frames ∧ 8 + (maxL + 11) + lo ≤ R.locals)
    (hK : va_K D cl tys s) (hP : va_P D cl (wv u) H) (hD : va_D A (wv u)) (hS : va_S A s.heap H locs) (hA : ∀ q : Nat, s.heap.size ≤ q → A q) (hrecv : (wv u)[0]? = some (b, .inr (ci, fs))) (hc : cl[ci]? = some (C, T, N)) (hn : As.length = n) (hl : ls.size = nL) (hst : st0 = As.reverse ++ .ref b :: rest) (hw : (rest.map fun v => v.category).sum ≤ 8) (hdg : decode cc pc = .ok (.invokevirtual index, 3)) (hf : cells ≤ R.cells ∧ slots ≤ R.slots)
    (kk : ∀ (r : Int32), post r → ∀ (H1 : Heap) (locs1 : List Loc), va_P D cl (wv u) H1 → va_S A s.heap H1 locs1 → W p l e R s m args below meth c H1 locs1 cells slots Q (F0 m (pc + 3) ls (.int r :: rest))) : W p l e R s m args below meth c H locs cells slots Q (F0 m pc ls st0) := by
  refine tr_callI S hM n hV hd hR hK hP hD hS hA hrecv hc hn hl hst hw hdg hf ?_
  intro r u' H1 locs1 hp hP1 hD1 hS1
  obtain ⟨e1, hp⟩ := hp
  rw [e1] at hP1
  exact kk r hp H1 locs1 hP1 hS1
theorem tr_callS {post : Int32 → Prop} {ws : va_W} (S : CallFix p m c cc nL s args lw_all own) (hM : tr_MS l y bytes maxL ret fr lo As post) (n : Nat) (hV : GoodIn lw_all (va_wsS own index y (ws_ y bytes maxL ret)))
    (hd : y.cls ≠ "java/lang/invoke/MethodHandle" ∧ y.cls ≠ "java/lang/invoke/VarHandle" ∧ (parseMethodDescriptor y.desc).map (fun d => d.parameters.length) = some n) (hR : fr + 1 ≤ R.frames ∧ 8 + (maxL + 11) + lo ≤ R.locals)
    (hP : va_P D cl ws H) (hS : va_S A s.heap H locs) (hA : ∀ q : Nat, s.heap.size ≤ q → A q) (hn : As.length = n) (hl : ls.size = nL) (hst : st0 = As.reverse ++ rest) (hw : (rest.map fun v => v.category).sum ≤ 8) (hdg : decode cc pc = .ok (.invokestatic index, 3)) (hf : cells ≤ R.cells ∧ slots ≤ R.slots)
    (kk : ∀ (r : Int32), post r → ∀ (H1 : Heap) (locs1 : List Loc), va_P D cl ws H1 → va_S A s.heap H1 locs1 → W p l e R s m args below meth c H1 locs1 cells slots Q (F0 m (pc + 3) ls (.int r :: rest))) : W p l e R s m args below meth c H locs cells slots Q (F0 m pc ls st0) := by
  refine va_calli (va_runS (As := As) (rest := rest) S (hM H.size) (va_cwS n S.2.2.2.2 hV rfl rfl rfl hd hR) ⟨fun a U g mk q => ⟨q.1, q.2⟩, fun U hU hW => ⟨rfl, by show U.heap.size = _; rw [hU]⟩⟩ rfl hn hl hst (lv_room hw) hdg hf) hS (fun q h1 h2 => absurd h1 (Nat.not_lt.mpr h2)) (fun q h => hA q (Nat.le_trans hS.1 h)) (fun r u' t H1 locs1 ht hvm hpost hB hz hk hS1 => ?_)
  exact kk r hpost H1 locs1 (hP.kept (fun k q hq => hk q.1 (hP k q hq).lt (Nat.not_le.mpr (hP k q hq).lt))) hS1
/-- a loop whose world may change -/
theorem tr_loop {τ : Type} (lv : τ → List (Nat × Value)) (ww : τ → σ) (I : τ → Prop) (μ : τ → Nat)
    (step : ∀ st : τ, I st → (∀ st' : τ, I st' → μ st' < μ st → ∀ (H : Heap) (locs : List Loc) (ls : Array Slot), va_P D cl (wv (ww st')) H → va_D A (wv (ww st')) → va_S A s.heap H locs → lv_has ls nL (lv st') → W p l e R s m args below meth c H locs cells slots Q (F0 m pc ls [])) →
      ∀ (H : Heap) (locs : List Loc) (ls : Array Slot), va_P D cl (wv (ww st)) H → va_D A (wv (ww st)) → va_S A s.heap H locs → lv_has ls nL (lv st) → W p l e R s m args below meth c H locs cells slots Q (F0 m pc ls []))
    (st : τ) (hI : I st) (hP : va_P D cl (wv (ww st)) H) (hD : va_D A (wv (ww st))) (hS : va_S A s.heap H locs) (hl : lv_has ls nL (lv st)) : W p l e R s m args below meth c H locs cells slots Q (F0 m pc ls []) := by
  have key : ∀ (n : Nat) (st : τ), μ st < n → I st → ∀ (H : Heap) (locs : List Loc) (ls : Array Slot), va_P D cl (wv (ww st)) H → va_D A (wv (ww st)) → va_S A s.heap H locs → lv_has ls nL (lv st) → W p l e R s m args below meth c H locs cells slots Q (F0 m pc ls []) := by
    intro n
    induction n with
    | zero => intro st h; exact absurd h (Nat.not_lt_zero _)
    | succ n ih =>
      intro st hm hI
      exact step st hI (fun st' hI' hlt => ih st' (by omega) hI')
  exact key (μ st + 1) st (Nat.lt_succ_self _) hI H locs ls hP hD hS hl
end TRC
end
section
/-! WORLDS: X (TextReplica, u = made and its arrays by field number), M (TextReplicaModel, v = made, shown and its arrays by field number) -/
set_option maxRecDepth 100000
abbrev tr_cl : List vw_C := [(RX0, TX0, 16), (RX1, TX1, 9)]
abbrev XW : Type := Int32 × (Nat → Nat → Int32)
abbrev MW : Type := Int32 × Int32 × (Nat → Nat → Int32)
abbrev tr_ty (cI cZ : ClassId) : List (ClassId × FieldType) := [(cI, .int), (cZ, .boolean)]
abbrev tr_fX (h : Nat → Nat) (u : XW) : List Value := [.int u.1, .ref (h 1), .ref (h 2), .ref (h 3), .ref (h 4), .ref (h 5), .ref (h 6), .ref (h 7), .ref (h 8), .ref (h 9), .ref (h 10), .ref (h 11), .ref (h 12), .ref (h 13), .ref (h 14), .ref (h 15)]
abbrev wX (h : Nat → Nat) (cI cZ : ClassId) (u : XW) : va_W := [(h 0, .inr (0, tr_fX h u)), (h 1, .inl (cZ, 48, .inl (u.2 1))), (h 2, .inl (cI, 48, .inl (u.2 2))), (h 3, .inl (cI, 48, .inl (u.2 3))), (h 4, .inl (cI, 48, .inl (u.2 4))), (h 5, .inl (cI, 48, .inl (u.2 5))), (h 6, .inl (cI, 48, .inl (u.2 6))), (h 7, .inl (cI, 48, .inl (u.2 7))), (h 8, .inl (cI, 3, .inl (u.2 8))), (h 9, .inl (cI, 147, .inl (u.2 9))), (h 10, .inl (cI, 9, .inl (u.2 10))), (h 11, .inl (cI, 3, .inl (u.2 11))), (h 12, .inl (cI, 147, .inl (u.2 12))), (h 13, .inl (cZ, 147, .inl (u.2 13))), (h 14, .inl (cI, 3, .inl (u.2 14))), (h 15, .inl (cI, 3, .inl (u.2 15)))]
/-- array k at place j becomes x -/
abbrev sX (u : XW) (k j : Nat) (x : Int32) : XW := (u.1, va_up u.2 k (upd (u.2 k) j x))
abbrev tr_fM (h : Nat → Nat) (v : MW) : List Value := [.int v.1, .ref (h 1), .ref (h 2), .ref (h 3), .ref (h 4), .ref (h 5), .ref (h 6), .int v.2.1, .ref (h 8)]
abbrev wM (h : Nat → Nat) (cI cZ : ClassId) (v : MW) : va_W := [(h 0, .inr (1, tr_fM h v)), (h 1, .inl (cI, 48, .inl (v.2.2 1))), (h 2, .inl (cZ, 48, .inl (v.2.2 2))), (h 3, .inl (cI, 48, .inl (v.2.2 3))), (h 4, .inl (cI, 48, .inl (v.2.2 4))), (h 5, .inl (cI, 48, .inl (v.2.2 5))), (h 6, .inl (cZ, 144, .inl (v.2.2 6))), (h 8, .inl (cI, 48, .inl (v.2.2 8)))]
abbrev sM (v : MW) (k j : Nat) (x : Int32) : MW := (v.1, v.2.1, va_up v.2.2 k (upd (v.2.2 k) j x))
section TRW
variable {p : Program} {l : Launch} {e : Env} {R : Room} {s : State} {m : MethodId} {args : Array Value} {below : List Frame} {meth : Method} {c : Code} {H H0 : Heap} {locs : List Loc} {cells slots : Nat} {Q : State → Prop} {A : Nat → Prop}
variable {cc : ByteArray} {pc nL idx : Nat} {ls : Array Slot} {rest : List Value} {D : va_G} {tys : List (ClassId × FieldType)} {h : Nat → Nat} {cI cZ : ClassId} {u : XW} {v : MW}
theorem tr_xg (S : CallFix p m c cc nL s args lw_all RX0) (hK : va_K D tr_cl tys s) (hP : va_P D tr_cl (wX h cI cZ u) H) (k : Nat) (hk : k < 16) (hlink : Cond.fieldLink RX0 idx RX0 (TX0 k).2.1 (TX0 k).2.2.1 ∈ lw_all) (hs : (TX0 k).1 = RX0) {x : Value} (hv : (tr_fX h u)[k]? = some x) (hdg : decode cc pc = .ok (.getfield idx, 3))
    (kk : W p l e R s m args below meth c H locs cells slots Q (F0 m (pc + 3) ls (x :: rest))) : W p l e R s m args below meth c H locs cells slots Q (F0 m pc ls (.ref (h 0) :: rest)) :=
  va_get (D := D) (ci := 0) (C := RX0) (T := TX0) (N := 16) S.1 S.2.1 S.2.2.2.2 in_X0 S.2.2.2.1 hK hP 0 rfl rfl k hk (S.2.2.2.2 _ hlink) (fun _ h9 => by rw [hs] at h9; exact h9) hv hdg kk
theorem tr_mg (S : CallFix p m c cc nL s args lw_all RX1) (hK : va_K D tr_cl tys s) (hP : va_P D tr_cl (wM h cI cZ v) H) (k : Nat) (hk : k < 9) (hlink : Cond.fieldLink RX1 idx RX1 (TX1 k).2.1 (TX1 k).2.2.1 ∈ lw_all) (hs : (TX1 k).1 = RX1) {x : Value} (hv : (tr_fM h v)[k]? = some x) (hdg : decode cc pc = .ok (.getfield idx, 3))
    (kk : W p l e R s m args below meth c H locs cells slots Q (F0 m (pc + 3) ls (x :: rest))) : W p l e R s m args below meth c H locs cells slots Q (F0 m pc ls (.ref (h 0) :: rest)) :=
  va_get (D := D) (ci := 1) (C := RX1) (T := TX1) (N := 9) S.1 S.2.1 S.2.2.2.2 in_X1 S.2.2.2.1 hK hP 0 rfl rfl k hk (S.2.2.2.2 _ hlink) (fun _ h9 => by rw [hs] at h9; exact h9) hv hdg kk
/-- made = x -/
theorem tr_xp (S : CallFix p m c cc nL s args lw_all RX0) (hK : va_K D tr_cl tys s) (hP : va_P D tr_cl (wX h cI cZ u) H) (hD : va_D A (wX h cI cZ u)) (hS : va_S A H0 H locs) {x : Int32} (hdg : decode cc pc = .ok (.putfield 60, 3))
    (kk : ∀ (H1 : Heap) (locs1 : List Loc), va_P D tr_cl (wX h cI cZ (x, u.2)) H1 → va_D A (wX h cI cZ (x, u.2)) → va_S A H0 H1 locs1 → W p l e R s m args below meth c H1 locs1 cells slots Q (F0 m (pc + 3) ls rest)) : W p l e R s m args below meth c H locs cells slots Q (F0 m pc ls (.int x :: .ref (h 0) :: rest)) :=
  va_put (D := D) (ci := 0) (v := .int x) (ty := .int) (C := RX0) (T := TX0) (N := 16) S.1 S.2.1 S.2.2.2.2 in_X0 tyX0 tyX0_ok nmX0 S.2.2.2.1 hK hP hD hS 0 rfl rfl 0 (by decide) (S.2.2.2.2 _ q27) (fun _ h9 => h9) rfl (by decide +kernel) rfl rfl (Nat.le_of_ble_eq_true rfl) hdg kk
theorem tr_mp0 (S : CallFix p m c cc nL s args lw_all RX1) (hK : va_K D tr_cl tys s) (hP : va_P D tr_cl (wM h cI cZ v) H) (hD : va_D A (wM h cI cZ v)) (hS : va_S A H0 H locs) {x : Int32} (hlink : Cond.fieldLink RX1 idx RX1 "made" "I" ∈ lw_all) (hdg : decode cc pc = .ok (.putfield idx, 3))
    (kk : ∀ (H1 : Heap) (locs1 : List Loc), va_P D tr_cl (wM h cI cZ (x, v.2)) H1 → va_D A (wM h cI cZ (x, v.2)) → va_S A H0 H1 locs1 → W p l e R s m args below meth c H1 locs1 cells slots Q (F0 m (pc + 3) ls rest)) : W p l e R s m args below meth c H locs cells slots Q (F0 m pc ls (.int x :: .ref (h 0) :: rest)) :=
  va_put (D := D) (ci := 1) (v := .int x) (ty := .int) (C := RX1) (T := TX1) (N := 9) S.1 S.2.1 S.2.2.2.2 in_X1 tyX1 tyX1_ok nmX1 S.2.2.2.1 hK hP hD hS 0 rfl rfl 0 (by decide) (S.2.2.2.2 _ hlink) (fun _ h9 => h9) rfl (by decide +kernel) rfl rfl (Nat.le_of_ble_eq_true rfl) hdg kk
theorem tr_mp7 (S : CallFix p m c cc nL s args lw_all RX1) (hK : va_K D tr_cl tys s) (hP : va_P D tr_cl (wM h cI cZ v) H) (hD : va_D A (wM h cI cZ v)) (hS : va_S A H0 H locs) {x : Int32} (hlink : Cond.fieldLink RX1 idx RX1 "shown" "I" ∈ lw_all) (hdg : decode cc pc = .ok (.putfield idx, 3))
    (kk : ∀ (H1 : Heap) (locs1 : List Loc), va_P D tr_cl (wM h cI cZ (v.1, x, v.2.2)) H1 → va_D A (wM h cI cZ (v.1, x, v.2.2)) → va_S A H0 H1 locs1 → W p l e R s m args below meth c H1 locs1 cells slots Q (F0 m (pc + 3) ls rest)) : W p l e R s m args below meth c H locs cells slots Q (F0 m pc ls (.int x :: .ref (h 0) :: rest)) :=
  va_put (D := D) (ci := 1) (v := .int x) (ty := .int) (C := RX1) (T := TX1) (N := 9) S.1 S.2.1 S.2.2.2.2 in_X1 tyX1 tyX1_ok nmX1 S.2.2.2.1 hK hP hD hS 0 rfl rfl 7 (by decide) (S.2.2.2.2 _ hlink) (fun _ h9 => h9) rfl (by decide +kernel) rfl rfl (Nat.le_of_ble_eq_true rfl) hdg kk
end TRW
end
section
/-! what the cells show of the abstract state: RepX (TextReplica), RepM (TextReplicaModel) -/
/-- the follower cells of a row, from the node v on -/
def tr_chain (f : Nat → Int32) (b : Nat) : Nat → List Nat → Prop
  | v, [] => f (b + v) = iI 0
  | v, c :: l => f (b + v) = iI (c + 1) ∧ tr_chain f b (c + 1) l
theorem tr_chain.rd {f : Nat → Int32} {b v : Nat} {L : List Nat} (h : tr_chain f b v L) : f (b + v) = iI (tr_hd L) := by
  cases L with
  | nil => exact h
  | cons c l => exact h.1
theorem tr_chain.next {f : Nat → Int32} {b v c : Nat} {L : List Nat} (h : tr_chain f b v (c :: L)) : tr_chain f b (c + 1) L := h.2
def RepX (S : TS) (u : XW) : Prop := (u.1 = nI S.n) ∧ (∀ c, c < S.n → u.2 1 c = bI (S.ins c)) ∧ (∀ c, c < S.n → u.2 2 c = nI (S.og c)) ∧ (∀ c, c < S.n → u.2 3 c = nI (tr_num S c)) ∧ (∀ c, c < S.n → S.ins c = true → u.2 4 c = S.le c) ∧ (∀ c, c < S.n → S.ins c = true → u.2 5 c = iI (S.pa c)) ∧ (∀ c, c < S.n → S.ins c = true → u.2 6 c = nI (S.st c)) ∧ (∀ c, c < S.n → S.ins c = false → u.2 7 c = iI (S.pa c)) ∧ (∀ r, r < 3 → u.2 8 r = nI (tr_cnt S.og r S.n)) ∧ (∀ c, c < S.n → u.2 9 (49 * S.og c + tr_num S c) = nI c) ∧ (∀ r, r < 3 → ∀ o, o < 3 → u.2 10 (3 * r + o) = nI (S.kv r o)) ∧ (∀ r, r < 3 → u.2 11 r = nI (S.gr r)) ∧ (∀ r, r < 3 → tr_chain (u.2 12) (49 * r) 0 (S.row r)) ∧ (∀ r, r < 3 → ∀ c, c ∈ S.row r → u.2 13 (49 * r + (c + 1)) = bI (S.tk r c)) ∧ (∀ r, r < 3 → u.2 14 r = nI (S.row r).length) ∧ (∀ r, r < 3 → u.2 15 r = nI (tr_tx S r).length)
theorem RepX.made {S : TS} {u : XW} (h : RepX S u) : u.1 = nI S.n := h.1
theorem RepX.ins {S : TS} {u : XW} (h : RepX S u) : ∀ c, c < S.n → u.2 1 c = bI (S.ins c) := h.2.1
theorem RepX.og {S : TS} {u : XW} (h : RepX S u) : ∀ c, c < S.n → u.2 2 c = nI (S.og c) := h.2.2.1
theorem RepX.num {S : TS} {u : XW} (h : RepX S u) : ∀ c, c < S.n → u.2 3 c = nI (tr_num S c) := h.2.2.2.1
theorem RepX.le {S : TS} {u : XW} (h : RepX S u) : ∀ c, c < S.n → S.ins c = true → u.2 4 c = S.le c := h.2.2.2.2.1
theorem RepX.pa {S : TS} {u : XW} (h : RepX S u) : ∀ c, c < S.n → S.ins c = true → u.2 5 c = iI (S.pa c) := h.2.2.2.2.2.1
theorem RepX.st {S : TS} {u : XW} (h : RepX S u) : ∀ c, c < S.n → S.ins c = true → u.2 6 c = nI (S.st c) := h.2.2.2.2.2.2.1
theorem RepX.tg {S : TS} {u : XW} (h : RepX S u) : ∀ c, c < S.n → S.ins c = false → u.2 7 c = iI (S.pa c) := h.2.2.2.2.2.2.2.1
theorem RepX.by {S : TS} {u : XW} (h : RepX S u) : ∀ r, r < 3 → u.2 8 r = nI (tr_cnt S.og r S.n) := h.2.2.2.2.2.2.2.2.1
theorem RepX.ch {S : TS} {u : XW} (h : RepX S u) : ∀ c, c < S.n → u.2 9 (49 * S.og c + tr_num S c) = nI c := h.2.2.2.2.2.2.2.2.2.1
theorem RepX.kv {S : TS} {u : XW} (h : RepX S u) : ∀ r, r < 3 → ∀ o, o < 3 → u.2 10 (3 * r + o) = nI (S.kv r o) := h.2.2.2.2.2.2.2.2.2.2.1
theorem RepX.gr {S : TS} {u : XW} (h : RepX S u) : ∀ r, r < 3 → u.2 11 r = nI (S.gr r) := h.2.2.2.2.2.2.2.2.2.2.2.1
theorem RepX.fol {S : TS} {u : XW} (h : RepX S u) : ∀ r, r < 3 → tr_chain (u.2 12) (49 * r) 0 (S.row r) := h.2.2.2.2.2.2.2.2.2.2.2.2.1
theorem RepX.tk {S : TS} {u : XW} (h : RepX S u) : ∀ r, r < 3 → ∀ c, c ∈ S.row r → u.2 13 (49 * r + (c + 1)) = bI (S.tk r c) := h.2.2.2.2.2.2.2.2.2.2.2.2.2.1
theorem RepX.rl {S : TS} {u : XW} (h : RepX S u) : ∀ r, r < 3 → u.2 14 r = nI (S.row r).length := h.2.2.2.2.2.2.2.2.2.2.2.2.2.2.1
theorem RepX.tl {S : TS} {u : XW} (h : RepX S u) : ∀ r, r < 3 → u.2 15 r = nI (tr_tx S r).length := h.2.2.2.2.2.2.2.2.2.2.2.2.2.2.2
def RepM (S : TS) (v : MW) : Prop := (v.1 = nI S.n) ∧ (∀ c, c < S.n → v.2.2 1 c = nI (S.og c)) ∧ (∀ c, c < S.n → v.2.2 2 c = bI (S.ins c)) ∧ (∀ c, c < S.n → S.ins c = true → v.2.2 3 c = S.le c) ∧ (∀ c, c < S.n → v.2.2 4 c = iI (S.pa c)) ∧ (∀ c, c < S.n → S.ins c = true → v.2.2 5 c = nI (S.st c)) ∧ (∀ r, r < 3 → ∀ c, c < S.n → v.2.2 6 (48 * r + c) = bI (tr_kn S r c)) ∧ (∀ r, r < 3 → ∀ c, S.n ≤ c → c < 48 → v.2.2 6 (48 * r + c) = bI false)
theorem RepM.made {S : TS} {v : MW} (h : RepM S v) : v.1 = nI S.n := h.1
theorem RepM.og {S : TS} {v : MW} (h : RepM S v) : ∀ c, c < S.n → v.2.2 1 c = nI (S.og c) := h.2.1
theorem RepM.ins {S : TS} {v : MW} (h : RepM S v) : ∀ c, c < S.n → v.2.2 2 c = bI (S.ins c) := h.2.2.1
theorem RepM.le {S : TS} {v : MW} (h : RepM S v) : ∀ c, c < S.n → S.ins c = true → v.2.2 3 c = S.le c := h.2.2.2.1
theorem RepM.pa {S : TS} {v : MW} (h : RepM S v) : ∀ c, c < S.n → v.2.2 4 c = iI (S.pa c) := h.2.2.2.2.1
theorem RepM.st {S : TS} {v : MW} (h : RepM S v) : ∀ c, c < S.n → S.ins c = true → v.2.2 5 c = nI (S.st c) := h.2.2.2.2.2.1
theorem RepM.kn {S : TS} {v : MW} (h : RepM S v) : ∀ r, r < 3 → ∀ c, c < S.n → v.2.2 6 (48 * r + c) = bI (tr_kn S r c) := h.2.2.2.2.2.2.1
theorem RepM.kz {S : TS} {v : MW} (h : RepM S v) : ∀ r, r < 3 → ∀ c, S.n ≤ c → c < 48 → v.2.2 6 (48 * r + c) = bI false := h.2.2.2.2.2.2.2
/-- a replica's number -/
def tr_ok (x : Int32) : Bool := !(decide (x < 0)) && !(decide (2 < x))
theorem tr_ok_f {x : Int32} (h : x < 0) : tr_ok x = false := by unfold tr_ok; simp [h]
theorem tr_ok_g {x : Int32} (h : 2 < x) : tr_ok x = false := by unfold tr_ok; simp [h]
theorem tr_ok_t {x : Int32} (h : ¬ x < 0) (h2 : ¬ 2 < x) : tr_ok x = true := by unfold tr_ok; simp [h, h2]
theorem tr_ok_n {x : Int32} (h : tr_ok x = true) : ∃ r : Nat, r < 3 ∧ x = nI r := by
  unfold tr_ok at h
  simp only [Bool.and_eq_true, Bool.not_eq_true', decide_eq_false_iff_not] at h
  obtain ⟨j, h1, h2⟩ := nI_of2 (x := x) (M := 2) (n := 2) (by decide) h.1 (Int32.not_lt.mp h.2)
  exact ⟨j, by omega, h2⟩
theorem tr_ok_nI {r : Nat} (h : r < 3) : tr_ok (nI r) = true := by
  have h3 : r = 0 ∨ r = 1 ∨ r = 2 := by omega
  rcases h3 with e | e | e <;> subst e <;> decide +kernel
theorem tr_kv_lt {S : TS} (h1 : tr_I1 S) (h3 : tr_I3 S) {r o : Nat} (hr : r < 3) (ho : o < 3) : S.kv r o ≤ 48 := by
  have a := h3 r hr o ho
  have b := tr_cnt_le S.og o S.n
  have c := h1.1
  omega
end
section
/-! PURE: RepX under each of X's updates -/
theorem tr_vs {α : Type} {f : Nat → α} {k : Nat} {v : α} : va_up f k v k = v := va_up_self f k v
theorem tr_vn {α : Type} {f : Nat → α} {k j : Nat} {v : α} (h : j ≠ k) : va_up f k v j = f j := va_up_ne f v h
theorem tr_u_s {f : Nat → Int32} {k : Nat} {x : Int32} : upd f k x k = x := pk_us
theorem tr_u_n {f : Nat → Int32} {k j : Nat} {x : Int32} (h : j ≠ k) : upd f k x j = f j := pk_un h
theorem tr_chain.move {f F : Nat → Int32} {b w w' : Nat} {L : List Nat} (h : tr_chain f b w L) (h1 : F (b + w') = iI (tr_hd L)) (h2 : ∀ x, x ∈ L → F (b + (x + 1)) = f (b + (x + 1))) : tr_chain F b w' L := by
  induction L generalizing w w' with
  | nil => exact h1
  | cons c L ih =>
    refine ⟨h1, ih h.2 ?_ (fun x hx => h2 x (List.mem_cons_of_mem _ hx))⟩
    rw [h2 c List.mem_cons_self]
    exact h.2.rd
theorem tr_chain.congr {f F : Nat → Int32} {b w : Nat} {L : List Nat} (h : tr_chain f b w L) (h1 : F (b + w) = f (b + w)) (h2 : ∀ x, x ∈ L → F (b + (x + 1)) = f (b + (x + 1))) : tr_chain F b w L :=
  h.move (by rw [h1]; exact h.rd) h2
/-- the node at which X ends, begun at w -/
def tr_end : Nat → List Nat → Nat
  | w, [] => w
  | _, x :: l => tr_end (x + 1) l
theorem tr_end_app (w : Nat) (X : List Nat) (a : Nat) : tr_end w (X ++ [a]) = a + 1 := by
  induction X generalizing w with
  | nil => rfl
  | cons x X ih => exact ih (x + 1)
theorem tr_cut.end_ {v : Nat} {X : List Nat} (h : tr_cut v X) : v = tr_end 0 X := by
  rcases h with ⟨e, eA⟩ | ⟨A0, a, e, eA⟩
  · rw [e, eA]; rfl
  · rw [e, eA, tr_end_app]
theorem tr_end_mem (w : Nat) (X : List Nat) : tr_end w X = w ∨ ∃ x, x ∈ X ∧ tr_end w X = x + 1 := by
  induction X generalizing w with
  | nil => exact Or.inl rfl
  | cons x X ih =>
    rcases ih (x + 1) with e | ⟨y, hy, e⟩
    · exact Or.inr ⟨x, List.mem_cons_self, e⟩
    · exact Or.inr ⟨y, List.mem_cons_of_mem _ hy, e⟩
theorem tr_chain.ins {f F : Nat → Int32} {b c v : Nat} {B : List Nat} : ∀ (X : List Nat) (w : Nat), tr_chain f b w (X ++ B) → (X ++ B).Nodup → c ∉ X ++ B → (∀ x, x ∈ X ++ B → x + 1 ≠ w) → c + 1 ≠ w → v = tr_end w X →
    F (b + v) = iI (c + 1) → F (b + (c + 1)) = iI (tr_hd B) → (∀ j, j ≠ v → j ≠ c + 1 → F (b + j) = f (b + j)) → tr_chain F b w (X ++ c :: B) := by
  intro X
  induction X with
  | nil =>
    intro w h hnd hc hw hcw hv h1 h2 h3
    have hv : v = w := hv
    subst hv
    refine ⟨h1, h.move h2 (fun x hx => h3 _ (hw x hx) (fun e => hc ?_))⟩
    have e : x = c := by omega
    rw [← e]; exact hx
  | cons x X ih =>
    intro w h hnd hc hw hcw hv h1 h2 h3
    have hv : v = tr_end (x + 1) X := hv
    have hnd' := List.nodup_cons.mp hnd
    have hxc : x ≠ c := fun e => hc (by rw [← e]; exact List.mem_cons_self)
    have hvw : w ≠ v := by
      intro e
      rcases tr_end_mem (x + 1) X with e2 | ⟨y, hy, e2⟩
      · exact hw x List.mem_cons_self (by omega)
      · exact hw y (List.mem_cons_of_mem _ (List.mem_append_left _ hy)) (by omega)
    refine ⟨?_, ih (x + 1) h.2 hnd'.2 (fun hm => hc (List.mem_cons_of_mem _ hm)) (fun y hy e => ?_) (by omega) hv h1 h2 h3⟩
    · rw [h3 w hvw (by omega)]
      exact h.1
    · have e : y = x := by omega
      rw [e] at hy
      exact hnd'.1 hy
theorem tr_flip (f : Nat → Bool) (c : Nat) : ∀ L : List Nat, L.Nodup → c ∈ L → f c = false → (L.filter (fun x => !(va_up f c true x))).length + 1 = (L.filter (fun x => !f x)).length := by
  intro L
  induction L with
  | nil => intro _ h; cases h
  | cons a L ih =>
    intro hnd hm hf
    have hnd' := List.nodup_cons.mp hnd
    by_cases e : a = c
    · subst e
      rw [List.filter_cons_of_neg (by rw [tr_vs]; decide), List.filter_cons_of_pos (by rw [hf]; rfl), List.length_cons]
      congr 2
      refine List.filter_congr (fun x hx => ?_)
      rw [tr_vn (fun e => hnd'.1 (by rw [← e]; exact hx))]
    · have hm' : c ∈ L := by
        rcases List.mem_cons.mp hm with h | h
        · exact absurd h.symm e
        · exact h
      have := ih hnd'.2 hm' hf
      by_cases ha : f a = true
      · rw [List.filter_cons_of_neg (by rw [tr_vn e, ha]; decide), List.filter_cons_of_neg (by rw [ha]; decide)]
        exact this
      · have ha : f a = false := by simpa using ha
        rw [List.filter_cons_of_pos (by rw [tr_vn e, ha]; rfl), List.filter_cons_of_pos (by rw [ha]; rfl), List.length_cons, List.length_cons]
        omega
theorem tr_same (f : Nat → Bool) (c : Nat) (b : Bool) (L : List Nat) (h : c ∉ L ∨ f c = b) : L.filter (fun x => !(va_up f c b x)) = L.filter (fun x => !f x) := by
  refine List.filter_congr (fun x hx => ?_)
  by_cases e : x = c
  · subst e
    rw [tr_vs]
    rcases h with h | h
    · exact absurd hx h
    · rw [h]
  · rw [tr_vn e]
theorem tr_tx_take_same {S : TS} {r c : Nat} (h : S.tk r c = true) : ∀ r', tr_tx (tr_take S r c) r' = tr_tx S r' := by
  intro r'
  show (S.row r').filter (fun x => !(va_up S.tk r (va_up (S.tk r) c true) r' x)) = _
  by_cases e : r' = r
  · subst e
    rw [tr_vs]
    exact tr_same (S.tk r') c true _ (Or.inr h)
  · rw [tr_vn e]
    rfl
theorem RepX.take1 {S : TS} {u : XW} {r c : Nat} (hR : RepX S u) (h : S.tk r c = true) : RepX (tr_take S r c) u := by
  have htk : ∀ r' c', va_up S.tk r (va_up (S.tk r) c true) r' c' = S.tk r' c' := by
    intro r' c'
    by_cases e : r' = r
    · subst e
      rw [tr_vs]
      by_cases e2 : c' = c
      · subst e2; rw [tr_vs, h]
      · rw [tr_vn e2]
    · rw [tr_vn e]
  refine ⟨hR.made, hR.ins, hR.og, hR.num, hR.le, hR.pa, hR.st, hR.tg, hR.by, hR.ch, hR.kv, hR.gr, hR.fol, fun r' hr' c' hc' => ?_, hR.rl, fun r' hr' => ?_⟩
  · rw [hR.tk r' hr' c' hc']
    exact congrArg bI (htk r' c').symm
  · rw [hR.tl r' hr', tr_tx_take_same h]
theorem RepX.take2 {S : TS} {u : XW} {r c : Nat} (hR : RepX S u) (hr : r < 3) (hc : c ∈ S.row r) (hnd : (S.row r).Nodup) (hid : ∀ r', r' < 3 → ∀ x, x ∈ S.row r' → x < 48) (h : S.tk r c = false) :
    RepX (tr_take S r c) (sX (sX u 13 (49 * r + (c + 1)) (bI true)) 15 r (nI ((tr_tx S r).length - 1))) := by
  have hc48 := hid r hr c hc
  refine ⟨hR.made, hR.ins, hR.og, hR.num, hR.le, hR.pa, hR.st, hR.tg, hR.by, hR.ch, hR.kv, hR.gr, hR.fol, fun r' hr' c' hc' => ?_, hR.rl, fun r' hr' => ?_⟩
  · show upd (u.2 13) (49 * r + (c + 1)) (bI true) (49 * r' + (c' + 1)) = bI (va_up S.tk r (va_up (S.tk r) c true) r' c')
    have hc48' := hid r' hr' c' hc'
    by_cases e : r' = r
    · subst e
      rw [tr_vs]
      by_cases e2 : c' = c
      · subst e2; rw [tr_vs, tr_u_s]
      · rw [tr_vn e2, tr_u_n (by omega)]
        exact hR.tk r' hr' c' hc'
    · rw [tr_vn e, tr_u_n (by omega)]
      exact hR.tk r' hr' c' hc'
  · show upd (u.2 15) r (nI ((tr_tx S r).length - 1)) r' = nI (((S.row r').filter (fun x => !(va_up S.tk r (va_up (S.tk r) c true) r' x))).length)
    by_cases e : r' = r
    · subst e
      rw [tr_u_s, tr_vs]
      have := tr_flip (S.tk r') c (S.row r') hnd hc h
      congr 1
      unfold tr_tx
      omega
    · rw [tr_vn e, tr_u_n e]
      exact hR.tl r' hr'
theorem RepX.know {S : TS} {u : XW} {r c : Nat} (hR : RepX S u) (hr : r < 3) (ho : S.og c < 3) : RepX (tr_know S r c) (sX u 10 (3 * r + S.og c) (nI (tr_num S c))) := by
  refine ⟨hR.made, hR.ins, hR.og, hR.num, hR.le, hR.pa, hR.st, hR.tg, hR.by, hR.ch, fun r' hr' o ho' => ?_, hR.gr, hR.fol, hR.tk, hR.rl, hR.tl⟩
  show upd (u.2 10) (3 * r + S.og c) (nI (tr_num S c)) (3 * r' + o) = nI (va_up S.kv r (va_up (S.kv r) (S.og c) (tr_num S c)) r' o)
  by_cases e : r' = r
  · subst e
    rw [tr_vs]
    by_cases e2 : o = S.og c
    · subst e2; rw [tr_vs, tr_u_s]
    · rw [tr_vn e2, tr_u_n (by omega)]
      exact hR.kv r' hr' o ho'
  · rw [tr_vn e, tr_u_n (by omega)]
    exact hR.kv r' hr' o ho'
theorem RepX.place {S : TS} {u w : XW} {r c v : Nat} {A T B : List Nat} (hR : RepX S u) (hr : r < 3) (hrow : S.row r = A ++ (T ++ B)) (hA : tr_cut (S.pa c) A) (hv : tr_cut v (A ++ T)) (hT : ∀ x ∈ T, tr_ky S c < tr_ky S x) (hB : ∀ x U', B = x :: U' → ¬ tr_ky S c < tr_ky S x)
    (hnd : (S.row r).Nodup) (hc : c ∉ S.row r) (hc48 : c < 48) (hid : ∀ r', r' < 3 → ∀ x, x ∈ S.row r' → x < 48)
    (w0 : w.1 = u.1) (wk : ∀ k, k < 11 → w.2 k = u.2 k) (w11 : w.2 11 r = nI (max (S.gr r) (S.st c))) (w11' : ∀ r', r' ≠ r → w.2 11 r' = u.2 11 r')
    (w12 : w.2 12 = upd (upd (u.2 12) (49 * r + (c + 1)) (iI (tr_hd B))) (49 * r + v) (nI c)) (w13 : w.2 13 = upd (u.2 13) (49 * r + (c + 1)) (bI false))
    (w14 : w.2 14 = upd (u.2 14) r (nI ((S.row r).length + 1))) (w15 : w.2 15 = upd (u.2 15) r (nI ((tr_tx S r).length + 1))) : RepX (tr_place S r c) w := by
  have hput : tr_putL (tr_ky S) (S.pa c) c (S.row r) = A ++ (T ++ c :: B) := by
    rw [hrow]
    exact tr_putL_eq (by rw [← hrow]; exact hnd) hA hT hB
  have hvc : v ≠ c + 1 := by
    intro e
    rcases hv with ⟨e2, -⟩ | ⟨A0, a, e2, e3⟩
    · omega
    · refine hc ?_
      have ea : a = c := by omega
      rw [hrow, ← List.append_assoc, e3, ea]
      simp
  have hv48 : v ≤ 48 := by
    rcases hv with ⟨e2, -⟩ | ⟨A0, a, e2, e3⟩
    · omega
    · have := hid r hr a (by rw [hrow, ← List.append_assoc, e3]; simp)
      omega
  have hmem : ∀ x, x ∈ A ++ (T ++ c :: B) ↔ x ∈ S.row r ∨ x = c := by
    intro x
    rw [hrow]
    simp only [List.mem_append, List.mem_cons]
    constructor
    · rintro (h | h | h | h)
      · exact Or.inl (Or.inl h)
      · exact Or.inl (Or.inr (Or.inl h))
      · exact Or.inr h
      · exact Or.inl (Or.inr (Or.inr h))
    · rintro ((h | h | h) | h)
      · exact Or.inl h
      · exact Or.inr (Or.inl h)
      · exact Or.inr (Or.inr (Or.inr h))
      · exact Or.inr (Or.inr (Or.inl h))
  have hrowr : (tr_place S r c).row r = A ++ (T ++ c :: B) := by
    show va_up S.row r (tr_putL (tr_ky S) (S.pa c) c (S.row r)) r = _
    rw [tr_vs, hput]
  have hrown : ∀ r', r' ≠ r → (tr_place S r c).row r' = S.row r' := fun r' e => by
    show va_up S.row r (tr_putL (tr_ky S) (S.pa c) c (S.row r)) r' = _
    rw [tr_vn e]
  have htkr : (tr_place S r c).tk r = va_up (S.tk r) c false := by
    show va_up S.tk r (va_up (S.tk r) c false) r = _
    rw [tr_vs]
  have htkn : ∀ r', r' ≠ r → (tr_place S r c).tk r' = S.tk r' := fun r' e => by
    show va_up S.tk r (va_up (S.tk r) c false) r' = _
    rw [tr_vn e]
  have hlen : (A ++ (T ++ c :: B)).length = (S.row r).length + 1 := by
    rw [hrow]
    simp only [List.length_append, List.length_cons]
    omega
  refine ⟨by rw [w0]; exact hR.made, ?_, ?_, ?_, ?_, ?_, ?_, ?_, ?_, ?_, ?_, ?_, ?_, ?_, ?_, ?_⟩
  · rw [wk 1 (by decide)]; exact hR.ins
  · rw [wk 2 (by decide)]; exact hR.og
  · rw [wk 3 (by decide)]; exact hR.num
  · rw [wk 4 (by decide)]; exact hR.le
  · rw [wk 5 (by decide)]; exact hR.pa
  · rw [wk 6 (by decide)]; exact hR.st
  · rw [wk 7 (by decide)]; exact hR.tg
  · rw [wk 8 (by decide)]; exact hR.by
  · rw [wk 9 (by decide)]; exact hR.ch
  · rw [wk 10 (by decide)]; exact hR.kv
  · intro r' hr'
    show w.2 11 r' = nI (va_up S.gr r (max (S.gr r) (S.st c)) r')
    by_cases e : r' = r
    · subst e
      rw [tr_vs, w11]
    · rw [tr_vn e, w11' r' e]
      exact hR.gr r' hr'
  · intro r' hr'
    by_cases e : r' = r
    · subst e
      rw [hrowr, w12, ← List.append_assoc]
      have hch := hR.fol r' hr
      rw [hrow, ← List.append_assoc] at hch
      refine tr_chain.ins (v := v) (A ++ T) 0 hch (by rw [List.append_assoc, ← hrow]; exact hnd) (by rw [List.append_assoc, ← hrow]; exact hc) (fun x _ => by omega) (by omega) hv.end_ ?_ ?_ ?_
      · rw [tr_u_s, iI_s]
      · rw [tr_u_n (by omega), tr_u_s]
      · intro j hj hj2
        rw [tr_u_n (by omega), tr_u_n (by omega)]
    · rw [hrown r' e, w12]
      have hid' := hid r' hr'
      refine (hR.fol r' hr').congr ?_ (fun x hx => ?_)
      · rw [tr_u_n (by omega), tr_u_n (by omega)]
      · have := hid' x hx
        rw [tr_u_n (by omega), tr_u_n (by omega)]
  · intro r' hr' c' hc'
    by_cases e : r' = r
    · subst e
      rw [htkr, w13]
      rw [hrowr] at hc'
      by_cases e2 : c' = c
      · subst e2; rw [tr_vs, tr_u_s]
      · rw [tr_vn e2, tr_u_n (by omega)]
        rcases (hmem c').mp hc' with h | h
        · exact hR.tk r' hr' c' h
        · exact absurd h e2
    · rw [htkn r' e, w13]
      rw [hrown r' e] at hc'
      have := hid r' hr' c' hc'
      rw [tr_u_n (by omega)]
      exact hR.tk r' hr' c' hc'
  · intro r' hr'
    rw [w14]
    by_cases e : r' = r
    · subst e
      rw [hrowr, tr_u_s, hlen]
    · rw [hrown r' e, tr_u_n e]
      exact hR.rl r' hr'
  · intro r' hr'
    rw [w15]
    unfold tr_tx
    by_cases e : r' = r
    · subst e
      rw [hrowr, htkr, tr_u_s]
      congr 1
      have h1 : ((S.row r').filter (fun x => !(va_up (S.tk r') c false x))) = (S.row r').filter (fun x => !S.tk r' x) := tr_same (S.tk r') c false _ (Or.inl hc)
      rw [← h1, hrow]
      simp only [List.filter_append, List.length_append]
      rw [List.filter_cons_of_pos (by rw [tr_vs]; rfl), List.length_cons]
      omega
    · rw [hrown r' e, htkn r' e, tr_u_n e]
      exact hR.tl r' hr'
/-- a new change, with its cells -/
theorem RepX.new {S : TS} {u w : XW} {r v t : Nat} {b : Bool} {x : Int32} (hR : RepX S u) (hr : r < 3) (hn : S.n < 48) (ho : ∀ c, c < S.n → S.og c < 3) (w0 : w.1 = nI (S.n + 1)) (wk : ∀ k, 10 ≤ k → k < 16 → w.2 k = u.2 k)
    (w1 : w.2 1 = upd (u.2 1) S.n (bI b)) (w2 : w.2 2 = upd (u.2 2) S.n (nI r)) (w3 : w.2 3 = upd (u.2 3) S.n (nI (tr_cnt S.og r S.n + 1)))
    (w4 : ∀ c, c < S.n → w.2 4 c = u.2 4 c) (w5 : ∀ c, c < S.n → w.2 5 c = u.2 5 c) (w6 : ∀ c, c < S.n → w.2 6 c = u.2 6 c) (w7 : ∀ c, c < S.n → w.2 7 c = u.2 7 c)
    (wi : b = true → w.2 4 S.n = x ∧ w.2 5 S.n = iI v ∧ w.2 6 S.n = nI t) (wd : b = false → w.2 7 S.n = iI v)
    (w8 : w.2 8 = upd (u.2 8) r (nI (tr_cnt S.og r S.n + 1))) (w9 : w.2 9 = upd (u.2 9) (49 * r + (tr_cnt S.og r S.n + 1)) (nI S.n)) : RepX (tr_new S r b v x t) w := by
  have on : (tr_new S r b v x t).og S.n = r := tr_vs
  have oc : ∀ c, c < S.n → (tr_new S r b v x t).og c = S.og c := fun c hc => tr_vn (by omega)
  have cnt : ∀ o m, m ≤ S.n → tr_cnt (tr_new S r b v x t).og o m = tr_cnt S.og o m := fun o m hm => tr_cnt_congr o m (fun c hc => oc c (by omega))
  have num : ∀ c, c < S.n → tr_num (tr_new S r b v x t) c = tr_num S c := fun c hc => by
    show tr_cnt _ ((tr_new S r b v x t).og c) (c + 1) = _
    rw [cnt _ _ (by omega), oc c hc]
    rfl
  have numn : tr_num (tr_new S r b v x t) S.n = tr_cnt S.og r S.n + 1 := by
    rw [tr_num_eq, cnt _ _ (Nat.le_refl _), on]
  have icn : (tr_new S r b v x t).ins S.n = b := tr_vs
  have ic : ∀ c, c < S.n → (tr_new S r b v x t).ins c = S.ins c := fun c hc => tr_vn (by omega)
  have pcn : (tr_new S r b v x t).pa S.n = v := tr_vs
  have pc : ∀ c, c < S.n → (tr_new S r b v x t).pa c = S.pa c := fun c hc => tr_vn (by omega)
  have lcn : (tr_new S r b v x t).le S.n = x := tr_vs
  have lc : ∀ c, c < S.n → (tr_new S r b v x t).le c = S.le c := fun c hc => tr_vn (by omega)
  have scn : (tr_new S r b v x t).st S.n = t := tr_vs
  have sc : ∀ c, c < S.n → (tr_new S r b v x t).st c = S.st c := fun c hc => tr_vn (by omega)
  have two : ∀ c, c < S.n + 1 → c < S.n ∨ c = S.n := fun c hc => by omega
  refine ⟨w0, ?_, ?_, ?_, ?_, ?_, ?_, ?_, ?_, ?_, ?_, ?_, ?_, ?_, ?_, ?_⟩
  · intro c hc
    rw [w1]
    rcases two c hc with h | h
    · rw [ic c h, tr_u_n (by omega)]; exact hR.ins c h
    · subst h; rw [icn, tr_u_s]
  · intro c hc
    rw [w2]
    rcases two c hc with h | h
    · rw [oc c h, tr_u_n (by omega)]; exact hR.og c h
    · subst h; rw [on, tr_u_s]
  · intro c hc
    rw [w3]
    rcases two c hc with h | h
    · rw [num c h, tr_u_n (by omega)]; exact hR.num c h
    · subst h; rw [numn, tr_u_s]
  · intro c hc hi
    rcases two c hc with h | h
    · rw [ic c h] at hi
      rw [lc c h, w4 c h]; exact hR.le c h hi
    · subst h
      rw [icn] at hi
      rw [lcn]; exact (wi hi).1
  · intro c hc hi
    rcases two c hc with h | h
    · rw [ic c h] at hi
      rw [pc c h, w5 c h]; exact hR.pa c h hi
    · subst h
      rw [icn] at hi
      rw [pcn]; exact (wi hi).2.1
  · intro c hc hi
    rcases two c hc with h | h
    · rw [ic c h] at hi
      rw [sc c h, w6 c h]; exact hR.st c h hi
    · subst h
      rw [icn] at hi
      rw [scn]; exact (wi hi).2.2
  · intro c hc hi
    rcases two c hc with h | h
    · rw [ic c h] at hi
      rw [pc c h, w7 c h]; exact hR.tg c h hi
    · subst h
      rw [icn] at hi
      rw [pcn]; exact wd hi
  · intro r' hr'
    show _ = nI (tr_cnt (tr_new S r b v x t).og r' (S.n + 1))
    rw [w8, tr_cnt_s, cnt _ _ (Nat.le_refl _), on]
    by_cases e : r' = r
    · subst e; rw [tr_u_s, if_pos rfl]
    · rw [tr_u_n e, if_neg (fun h => e h.symm)]; exact hR.by r' hr'
  · intro c hc
    rw [w9]
    have hcn := tr_cnt_le S.og r S.n
    rcases two c hc with h | h
    · rw [oc c h, num c h, tr_u_n ?_]
      · exact hR.ch c h
      · have h1 := tr_num_c S c
        have h2 := ho c h
        have h3 : S.og c = r → tr_num S c ≤ tr_cnt S.og r S.n := fun e => by rw [← e]; exact tr_num_le S h
        intro e
        have e2 : S.og c = r := by omega
        have := h3 e2
        omega
    · subst h; rw [on, numn, tr_u_s]
  · rw [wk 10 (by decide) (by decide)]; exact hR.kv
  · rw [wk 11 (by decide) (by decide)]; exact hR.gr
  · rw [wk 12 (by decide) (by decide)]; exact hR.fol
  · rw [wk 13 (by decide) (by decide)]; exact hR.tk
  · rw [wk 14 (by decide) (by decide)]; exact hR.rl
  · rw [wk 15 (by decide) (by decide)]; exact hR.tl
end
section
/-! a place in the code that several paths reach: proved once -/
section TRG
variable {l : Launch} {D : va_G} {cl : List vw_C} {σ : Type} {wv : σ → va_W} {p : Program} {e : Env} {R : Room} {s : State} {m : MethodId} {args : Array Value} {below : List Frame} {meth : Method} {c : Code} {H : Heap} {locs : List Loc} {cells slots nL : Nat} {Q : State → Prop} {A : Nat → Prop} {g : JFrame}
theorem tr_seg {τ : Type} (pc2 : Nat) (lv : τ → List (Nat × Value)) (sk : τ → List Value) (ww : τ → σ) (I : τ → Prop)
    (body : ∀ st : τ, I st → ∀ (H : Heap) (locs : List Loc) (ls : Array Slot), va_P D cl (wv (ww st)) H → va_D A (wv (ww st)) → va_S A s.heap H locs → lv_has ls nL (lv st) → W p l e R s m args below meth c H locs cells slots Q (F0 m pc2 ls (sk st)))
    (k : (∀ st : τ, I st → ∀ (H : Heap) (locs : List Loc) (ls : Array Slot), va_P D cl (wv (ww st)) H → va_D A (wv (ww st)) → va_S A s.heap H locs → lv_has ls nL (lv st) → W p l e R s m args below meth c H locs cells slots Q (F0 m pc2 ls (sk st))) → W p l e R s m args below meth c H locs cells slots Q g) : W p l e R s m args below meth c H locs cells slots Q g := k body
end TRG
end
section
/-! X: the methods that only read, and takeAway (printed by gen/x_leaf.py) -/
set_option maxRecDepth 100000
theorem nI_add1 (a c : Nat) : nI (a + 1) + nI c = nI (a + (c + 1)) := by rw [nI_add, show a + 1 + c = a + (c + 1) by omega]
theorem tr_kn_f {S : TS} {r c : Nat} (h : S.kv r (S.og c) < tr_num S c) : tr_kn S r c = false := decide_eq_false (by omega)
theorem tr_kn_t {S : TS} {r c : Nat} (h : tr_num S c ≤ S.kv r (S.og c)) : tr_kn S r c = true := decide_eq_true h
set_option maxHeartbeats 4000000 in
theorem tr_X_isReplica (l : Launch) (x : Int32) : tr_MS l yX0_isReplica cX0_isReplica 1 (some .boolean) 0 0 [.int x] (fun z => z = bI (tr_ok x)) := by
  refine tr_enterS RX0 rfl (by decide) (Nat.le_of_ble_eq_true rfl) ?_
  intro p e s m below meth c0 A ls S0 hret hlk hS hl
  have hx := S0.1
  have hb := S0.2.1
  have hl : lv_has ls 1 [(0, .int x)] := hl
  refine lv_iload_n hx hb dX0_isReplica_0 rfl (lv_at hl 0 rfl) ?_
  refine lv_if_lt (tgt := 13) hx hb dX0_isReplica_1 (by decide) (fun c1 => ?_) (fun c1 => ?_)
  · skip
    refine lv_iconst (v := (bI false)) hx hb dX0_isReplica_13 (by decide +kernel) ?_
    exact tr_sret hx hb hret (bI_narrow _) hlk hS dX0_isReplica_14 (by rw [tr_ok_f c1])
  · skip
    refine lv_iload_n hx hb dX0_isReplica_4 rfl (lv_at hl 0 rfl) ?_
    refine lv_iconst (v := 2) hx hb dX0_isReplica_5 (by decide +kernel) ?_
    refine lv_icmp_gt (tgt := 13) hx hb dX0_isReplica_6 (by decide) (fun c6 => ?_) (fun c6 => ?_)
    · skip
      refine lv_iconst (v := (bI false)) hx hb dX0_isReplica_13 (by decide +kernel) ?_
      exact tr_sret hx hb hret (bI_narrow _) hlk hS dX0_isReplica_14 (by rw [tr_ok_g c6])
    · skip
      refine lv_iconst (v := (bI true)) hx hb dX0_isReplica_9 (by decide +kernel) ?_
      refine lv_goto (tgt := 14) hx hb dX0_isReplica_10 (by decide) ?_
      exact tr_sret hx hb hret (bI_narrow _) hlk hS dX0_isReplica_14 (by rw [tr_ok_t c1 c6])

set_option maxHeartbeats 4000000 in
theorem tr_X_isKnown (l : Launch) (D : va_G) (h : Nat → Nat) (cI cZ : ClassId) (S : TS) (u : XW) (hR : RepX S u) (h1 : tr_I1 S) (h3 : tr_I3 S) (r c : Nat) (hr : r < 3) (hc : c < S.n) : tr_MR l yX0_isKnown cX0_isKnown 3 (some .boolean) 0 0 D tr_cl (tr_ty cI cZ) (wX h cI cZ) [.ref (h 0), .int (nI r), .int (nI c)] u (fun z => z = bI (tr_kn S r c)) := by
  refine tr_enterI RX0 rfl (by decide) (Nat.le_of_ble_eq_true rfl) ?_
  intro p e s m below meth c0 A ls S0 hret hlk hK hP hD hS hA hl
  have hx := S0.1
  have hb := S0.2.1
  have hl : lv_has ls 3 [(0, .ref (h 0)), (1, .int (nI r)), (2, .int (nI c))] := hl
  have hn := h1.1
  have ho := (h1.2 c hc).1
  have hk := tr_kv_lt h1 h3 hr ho
  have hnum := tr_num_c S c
  refine lv_aload_n hx hb dX0_isKnown_0 rfl (lv_at hl 0 rfl) ?_
  refine tr_xg (x := .ref (h 3)) S0 hK hP 3 (by decide) q30 rfl rfl dX0_isKnown_1 ?_
  refine lv_iload_n hx hb dX0_isKnown_4 rfl (lv_at hl 2 rfl) ?_
  refine tr_ald (v := (nI (tr_num S c))) hx hb hK hP 3 0 rfl rfl (by decide) (by omega) (hR.num c hc) dX0_isKnown_5 ?_
  refine lv_aload_n hx hb dX0_isKnown_6 rfl (lv_at hl 0 rfl) ?_
  refine tr_xg (x := .ref (h 10)) S0 hK hP 10 (by decide) q37 rfl rfl dX0_isKnown_7 ?_
  refine lv_iconst (v := (nI 3)) hx hb dX0_isKnown_10 (by decide +kernel) ?_
  refine lv_iload_n hx hb dX0_isKnown_11 rfl (lv_at hl 1 rfl) ?_
  refine tr_imul (z := (nI (3 * r))) hx hb dX0_isKnown_12 (pk_mul _ _) ?_
  refine lv_aload_n hx hb dX0_isKnown_13 rfl (lv_at hl 0 rfl) ?_
  refine tr_xg (x := .ref (h 2)) S0 hK hP 2 (by decide) q29 rfl rfl dX0_isKnown_14 ?_
  refine lv_iload_n hx hb dX0_isKnown_17 rfl (lv_at hl 2 rfl) ?_
  refine tr_ald (v := (nI (S.og c))) hx hb hK hP 2 0 rfl rfl (by decide) (by omega) (hR.og c hc) dX0_isKnown_18 ?_
  refine tr_iadd (z := (nI (3 * r + (S.og c)))) hx hb dX0_isKnown_19 (nI_add _ _) ?_
  refine tr_ald (v := (nI (S.kv r (S.og c)))) hx hb hK hP 10 0 rfl rfl (by decide) (by omega) (hR.kv r hr _ ho) dX0_isKnown_20 ?_
  refine tr_cgt (tgt := 28) hx hb dX0_isKnown_21 (by decide) (by omega) (by omega) (fun c21 => ?_) (fun c21 => ?_)
  · skip
    refine lv_iconst (v := (bI false)) hx hb dX0_isKnown_28 (by decide +kernel) ?_
    exact tr_zret (wv := wX h cI cZ) (u := u) hx hb hret (bI_narrow _) hlk hK hP hD hS dX0_isKnown_29 (⟨rfl, by rw [tr_kn_f c21]⟩)
  · skip
    refine lv_iconst (v := (bI true)) hx hb dX0_isKnown_24 (by decide +kernel) ?_
    refine lv_goto (tgt := 29) hx hb dX0_isKnown_25 (by decide) ?_
    exact tr_zret (wv := wX h cI cZ) (u := u) hx hb hret (bI_narrow _) hlk hK hP hD hS dX0_isKnown_29 (⟨rfl, by rw [tr_kn_t c21]⟩)

set_option maxHeartbeats 4000000 in
theorem tr_X_isGreater (l : Launch) (D : va_G) (h : Nat → Nat) (cI cZ : ClassId) (S : TS) (u : XW) (hR : RepX S u) (h1 : tr_I1 S) (a b : Nat) (ha : a < S.n) (hb1 : b < S.n) (ia : S.ins a = true) (ib : S.ins b = true) : tr_MR l yX0_isGreater cX0_isGreater 3 (some .boolean) 0 0 D tr_cl (tr_ty cI cZ) (wX h cI cZ) [.ref (h 0), .int (nI a), .int (nI b)] u (fun z => z = bI (decide (tr_ky S b < tr_ky S a))) := by
  refine tr_enterI RX0 rfl (by decide) (Nat.le_of_ble_eq_true rfl) ?_
  intro p e s m below meth c0 A ls S0 hret hlk hK hP hD hS hA hl
  have hx := S0.1
  have hb := S0.2.1
  have hl : lv_has ls 3 [(0, .ref (h 0)), (1, .int (nI a)), (2, .int (nI b))] := hl
  have hn := h1.1
  have oa := (h1.2 a ha).1
  have ob := (h1.2 b hb1).1
  have sa := ((h1.2 a ha).2.2.1 ia).2
  have sb := ((h1.2 b hb1).2.2.1 ib).2
  refine lv_aload_n hx hb dX0_isGreater_0 rfl (lv_at hl 0 rfl) ?_
  refine tr_xg (x := .ref (h 6)) S0 hK hP 6 (by decide) q33 rfl rfl dX0_isGreater_1 ?_
  refine lv_iload_n hx hb dX0_isGreater_4 rfl (lv_at hl 1 rfl) ?_
  refine tr_ald (v := (nI (S.st a))) hx hb hK hP 6 0 rfl rfl (by decide) (by omega) (hR.st a ha ia) dX0_isGreater_5 ?_
  refine lv_aload_n hx hb dX0_isGreater_6 rfl (lv_at hl 0 rfl) ?_
  refine tr_xg (x := .ref (h 6)) S0 hK hP 6 (by decide) q33 rfl rfl dX0_isGreater_7 ?_
  refine lv_iload_n hx hb dX0_isGreater_10 rfl (lv_at hl 2 rfl) ?_
  refine tr_ald (v := (nI (S.st b))) hx hb hK hP 6 0 rfl rfl (by decide) (by omega) (hR.st b hb1 ib) dX0_isGreater_11 ?_
  refine tr_ceq (tgt := 36) hx hb dX0_isGreater_12 (by decide) (by omega) (by omega) (fun c12 => ?_) (fun c12 => ?_)
  · skip
    refine lv_aload_n hx hb dX0_isGreater_36 rfl (lv_at hl 0 rfl) ?_
    refine tr_xg (x := .ref (h 2)) S0 hK hP 2 (by decide) q29 rfl rfl dX0_isGreater_37 ?_
    refine lv_iload_n hx hb dX0_isGreater_40 rfl (lv_at hl 1 rfl) ?_
    refine tr_ald (v := (nI (S.og a))) hx hb hK hP 2 0 rfl rfl (by decide) (by omega) (hR.og a ha) dX0_isGreater_41 ?_
    refine lv_aload_n hx hb dX0_isGreater_42 rfl (lv_at hl 0 rfl) ?_
    refine tr_xg (x := .ref (h 2)) S0 hK hP 2 (by decide) q29 rfl rfl dX0_isGreater_43 ?_
    refine lv_iload_n hx hb dX0_isGreater_46 rfl (lv_at hl 2 rfl) ?_
    refine tr_ald (v := (nI (S.og b))) hx hb hK hP 2 0 rfl rfl (by decide) (by omega) (hR.og b hb1) dX0_isGreater_47 ?_
    refine tr_cle (tgt := 55) hx hb dX0_isGreater_48 (by decide) (by omega) (by omega) (fun c48 => ?_) (fun c48 => ?_)
    · skip
      refine lv_iconst (v := (bI false)) hx hb dX0_isGreater_55 (by decide +kernel) ?_
      exact tr_zret (wv := wX h cI cZ) (u := u) hx hb hret (bI_narrow _) hlk hK hP hD hS dX0_isGreater_56 (⟨rfl, by rw [decide_eq_false (by unfold tr_ky; omega)]⟩)
    · skip
      refine lv_iconst (v := (bI true)) hx hb dX0_isGreater_51 (by decide +kernel) ?_
      refine lv_goto (tgt := 56) hx hb dX0_isGreater_52 (by decide) ?_
      exact tr_zret (wv := wX h cI cZ) (u := u) hx hb hret (bI_narrow _) hlk hK hP hD hS dX0_isGreater_56 (⟨rfl, by rw [decide_eq_true (by unfold tr_ky; omega)]⟩)
  · skip
    refine lv_aload_n hx hb dX0_isGreater_15 rfl (lv_at hl 0 rfl) ?_
    refine tr_xg (x := .ref (h 6)) S0 hK hP 6 (by decide) q33 rfl rfl dX0_isGreater_16 ?_
    refine lv_iload_n hx hb dX0_isGreater_19 rfl (lv_at hl 1 rfl) ?_
    refine tr_ald (v := (nI (S.st a))) hx hb hK hP 6 0 rfl rfl (by decide) (by omega) (hR.st a ha ia) dX0_isGreater_20 ?_
    refine lv_aload_n hx hb dX0_isGreater_21 rfl (lv_at hl 0 rfl) ?_
    refine tr_xg (x := .ref (h 6)) S0 hK hP 6 (by decide) q33 rfl rfl dX0_isGreater_22 ?_
    refine lv_iload_n hx hb dX0_isGreater_25 rfl (lv_at hl 2 rfl) ?_
    refine tr_ald (v := (nI (S.st b))) hx hb hK hP 6 0 rfl rfl (by decide) (by omega) (hR.st b hb1 ib) dX0_isGreater_26 ?_
    refine tr_cle (tgt := 34) hx hb dX0_isGreater_27 (by decide) (by omega) (by omega) (fun c27 => ?_) (fun c27 => ?_)
    · skip
      refine lv_iconst (v := (bI false)) hx hb dX0_isGreater_34 (by decide +kernel) ?_
      exact tr_zret (wv := wX h cI cZ) (u := u) hx hb hret (bI_narrow _) hlk hK hP hD hS dX0_isGreater_35 (⟨rfl, by rw [decide_eq_false (by unfold tr_ky; omega)]⟩)
    · skip
      refine lv_iconst (v := (bI true)) hx hb dX0_isGreater_30 (by decide +kernel) ?_
      refine lv_goto (tgt := 35) hx hb dX0_isGreater_31 (by decide) ?_
      exact tr_zret (wv := wX h cI cZ) (u := u) hx hb hret (bI_narrow _) hlk hK hP hD hS dX0_isGreater_35 (⟨rfl, by rw [decide_eq_true (by unfold tr_ky; omega)]⟩)

set_option maxHeartbeats 4000000 in
theorem tr_X_insertAt (l : Launch) (D : va_G) (h : Nat → Nat) (cI cZ : ClassId) (S : TS) (u : XW) (hR : RepX S u) (r q t : Nat) (hr : r < 3) (hlen : (S.row r).length ≤ 48) (hid : ∀ x, x ∈ S.row r → x < 48) (hq : q < 2 ^ 31) (ht : (tr_tx S r)[q]? = some t) : tr_MR l yX0_insertAt cX0_insertAt 7 (some .int) 0 0 D tr_cl (tr_ty cI cZ) (wX h cI cZ) [.ref (h 0), .int (nI r), .int (nI q)] u (fun z => z = nI t) := by
  refine tr_enterI RX0 rfl (by decide) (Nat.le_of_ble_eq_true rfl) ?_
  intro p e s m below meth c0 A ls S0 hret hlk hK hP hD hS hA hl
  have hx := S0.1
  have hb := S0.2.1
  have hl : lv_has ls 7 [(0, .ref (h 0)), (1, .int (nI r)), (2, .int (nI q))] := hl
  refine lv_bipush (v := (nI 49)) hx hb dX0_insertAt_0 (by decide +kernel) ?_
  refine lv_iload_n hx hb dX0_insertAt_2 rfl (lv_at hl 1 rfl) ?_
  refine tr_imul (z := (nI (49 * r))) hx hb dX0_insertAt_3 (pk_mul _ _) ?_
  refine lv_istore_n (lv' := [(3, .int (nI (49 * r))), (0, .ref (h 0)), (1, .int (nI r)), (2, .int (nI q))]) hx hb dX0_insertAt_4 rfl hl (by decide) rfl (fun ls hl => ?_)
  refine lv_iload_n hx hb dX0_insertAt_5 rfl (lv_at hl 3 rfl) ?_
  refine lv_istore (lv' := [(4, .int (nI q)), (3, .int (nI (49 * r))), (0, .ref (h 0)), (1, .int (nI r)), (2, .int (nI q))]) hx hb dX0_insertAt_6 hl (by decide) rfl (fun ls hl => ?_)
  refine lv_aload_n hx hb dX0_insertAt_8 rfl (lv_at hl 2 rfl) ?_
  refine tr_xg (x := .ref (h 12)) S0 hK hP 12 (by decide) q39 rfl rfl dX0_insertAt_9 ?_
  refine lv_iload_n hx hb dX0_insertAt_12 rfl (lv_at hl 1 rfl) ?_
  refine tr_ald (v := (iI (tr_hd (S.row r)))) hx hb hK hP 12 0 rfl rfl (by decide) (by omega) ((hR.fol r hr).rd) dX0_insertAt_13 ?_
  refine lv_istore (lv' := [(5, .int (iI (tr_hd (S.row r)))), (4, .int (nI q)), (3, .int (nI (49 * r))), (0, .ref (h 0)), (1, .int (nI r)), (2, .int (nI q))]) hx hb dX0_insertAt_14 hl (by decide) rfl (fun ls hl => ?_)
  refine lv_iconst (v := (nI 0)) hx hb dX0_insertAt_16 (by decide +kernel) ?_
  refine lv_istore (lv' := [(6, .int (nI 0)), (5, .int (iI (tr_hd (S.row r)))), (4, .int (nI q)), (3, .int (nI (49 * r))), (0, .ref (h 0)), (1, .int (nI r)), (2, .int (nI q))]) hx hb dX0_insertAt_17 hl (by decide) rfl (fun ls hl => ?_)
  refine tr_loop (wv := wX h cI cZ) (τ := Nat × List Nat × Nat) (lv := fun st => [(0, .ref (h 0)), (1, .int (nI r)), (2, .int (nI q)), (3, .int (nI (49 * r))), (4, .int (nI st.2.2)), (5, .int (iI (tr_hd st.2.1))), (6, .int (nI st.1))]) (ww := fun _ => u) (I := fun st => st.1 + st.2.1.length ≤ 48 ∧ (∀ x, x ∈ st.2.1 → x ∈ S.row r) ∧ (st.2.1.filter (fun c => !S.tk r c))[st.2.2]? = some t ∧ st.2.2 < 2 ^ 31 ∧ ∃ v, tr_chain (u.2 12) (49 * r) v st.2.1) (μ := fun st => st.2.1.length) ?_ (0, S.row r, q) ⟨by dsimp only; omega, fun x hx => hx, ht, hq, 0, hR.fol r hr⟩ hP hD hS (lv_sub hl [4, 5, 6, 3, 2, 1, 0] rfl)
  rintro ⟨i, B, k⟩ ⟨hi, hB, hk, hkb, v, hch⟩ ih H locs ls hP hD hS hl
  dsimp only at hi hB hk hkb hch
  cases B with
  | nil => simp at hk
  | cons b B =>
    have hl : lv_has ls 7 [(0, .ref (h 0)), (1, .int (nI r)), (2, .int (nI q)), (3, .int (nI (49 * r))), (4, .int (nI k)), (5, .int (iI (b + 1))), (6, .int (nI i))] := hl
    have hbm : b ∈ S.row r := hB b List.mem_cons_self
    have hb48 := hid b hbm
    rw [List.length_cons] at hi
    have hB2 : ∀ x, x ∈ B → x ∈ S.row r := fun x hx => hB x (List.mem_cons_of_mem _ hx)
    refine lv_iload hx hb dX0_insertAt_19 (lv_at hl 6 rfl) ?_
    refine lv_bipush (v := (nI 48)) hx hb dX0_insertAt_21 (by decide +kernel) ?_
    refine tr_cge (tgt := 75) hx hb dX0_insertAt_23 (by decide) (by omega) (by omega) (fun c23 => ?_) (fun c23 => ?_)
    · skip
      omega
    · skip
      refine lv_iload hx hb dX0_insertAt_26 (lv_at hl 5 rfl) ?_
      refine tr_fltI (tgt := 75) hx hb dX0_insertAt_28 (by decide) (by omega) (fun c28 => ?_) (fun c28 => ?_)
      · skip
        omega
      · skip
        refine lv_aload_n hx hb dX0_insertAt_31 rfl (lv_at hl 0 rfl) ?_
        refine tr_xg (x := .ref (h 13)) S0 hK hP 13 (by decide) q40 rfl rfl dX0_insertAt_32 ?_
        refine lv_iload_n hx hb dX0_insertAt_35 rfl (lv_at hl 3 rfl) ?_
        refine lv_iconst (v := (nI 1)) hx hb dX0_insertAt_36 (by decide +kernel) ?_
        refine tr_iadd (z := (nI (49 * r + 1))) hx hb dX0_insertAt_37 (nI_add _ _) ?_
        refine lv_iload hx hb dX0_insertAt_38 (lv_at hl 5 rfl) ?_
        refine tr_iadd (z := (nI (49 * r + (b + 1)))) hx hb dX0_insertAt_40 (iI_add _ _) ?_
        refine tr_zld (v := (bI (S.tk r b))) hx hb hK hP 13 1 rfl rfl (by decide) (by omega) (hR.tk r hr b hbm) dX0_insertAt_41 ?_
        refine tr_fneB (tgt := 56) hx hb dX0_insertAt_42 (by decide) (fun c42 => ?_) (fun c42 => ?_)
        · skip
          rw [List.filter_cons_of_neg (by rw [c42]; decide)] at hk
          have hk2 := hk
          refine lv_aload_n hx hb dX0_insertAt_56 rfl (lv_at hl 0 rfl) ?_
          refine tr_xg (x := .ref (h 12)) S0 hK hP 12 (by decide) q39 rfl rfl dX0_insertAt_57 ?_
          refine lv_iload_n hx hb dX0_insertAt_60 rfl (lv_at hl 3 rfl) ?_
          refine lv_iconst (v := (nI 1)) hx hb dX0_insertAt_61 (by decide +kernel) ?_
          refine tr_iadd (z := (nI (49 * r + 1))) hx hb dX0_insertAt_62 (nI_add _ _) ?_
          refine lv_iload hx hb dX0_insertAt_63 (lv_at hl 5 rfl) ?_
          refine tr_iadd (z := (nI (49 * r + (b + 1)))) hx hb dX0_insertAt_65 (iI_add _ _) ?_
          refine tr_ald (v := (iI (tr_hd B))) hx hb hK hP 12 0 rfl rfl (by decide) (by omega) (hch.next.rd) dX0_insertAt_66 ?_
          refine lv_istore (lv' := [(5, .int (iI (tr_hd B))), (0, .ref (h 0)), (1, .int (nI r)), (2, .int (nI q)), (3, .int (nI (49 * r))), (4, .int (nI k)), (6, .int (nI i))]) hx hb dX0_insertAt_67 hl (by decide) rfl (fun ls hl => ?_)
          refine lv_iinc (v := (nI (i + 1))) (lv' := [(6, .int (nI (i + 1))), (5, .int (iI (tr_hd B))), (0, .ref (h 0)), (1, .int (nI r)), (2, .int (nI q)), (3, .int (nI (49 * r))), (4, .int (nI k))]) hx hb dX0_insertAt_69 hl (k := 6) rfl (nI_inc _) (by decide) rfl (fun ls hl => ?_)
          refine lv_goto (tgt := 19) hx hb dX0_insertAt_72 (by decide) ?_
          exact ih (i + 1, B, k) ⟨by dsimp only; omega, hB2, hk2, by dsimp only; omega, b + 1, hch.next⟩ (Nat.lt_succ_self _) H locs ls hP hD hS (lv_sub hl [2, 3, 4, 5, 6, 1, 0] rfl)
        · skip
          rw [List.filter_cons_of_pos (by rw [c42]; rfl)] at hk
          refine lv_iload hx hb dX0_insertAt_45 (lv_at hl 4 rfl) ?_
          refine tr_fneN (tgt := 53) hx hb dX0_insertAt_47 (by decide) (by omega) (fun c47 => ?_) (fun c47 => ?_)
          · skip
            have hk2 : (B.filter (fun c => !S.tk r c))[k - 1]? = some t := by
              rw [show k = (k - 1) + 1 by omega, List.getElem?_cons_succ] at hk
              exact hk
            refine lv_iinc (v := (nI (k - 1))) (lv' := [(4, .int (nI (k - 1))), (0, .ref (h 0)), (1, .int (nI r)), (2, .int (nI q)), (3, .int (nI (49 * r))), (5, .int (iI (b + 1))), (6, .int (nI i))]) hx hb dX0_insertAt_53 hl (k := 4) rfl (by rw [show k = (k - 1) + 1 by omega]; exact nI_dec _) (by decide) rfl (fun ls hl => ?_)
            refine lv_aload_n hx hb dX0_insertAt_56 rfl (lv_at hl 1 rfl) ?_
            refine tr_xg (x := .ref (h 12)) S0 hK hP 12 (by decide) q39 rfl rfl dX0_insertAt_57 ?_
            refine lv_iload_n hx hb dX0_insertAt_60 rfl (lv_at hl 4 rfl) ?_
            refine lv_iconst (v := (nI 1)) hx hb dX0_insertAt_61 (by decide +kernel) ?_
            refine tr_iadd (z := (nI (49 * r + 1))) hx hb dX0_insertAt_62 (nI_add _ _) ?_
            refine lv_iload hx hb dX0_insertAt_63 (lv_at hl 5 rfl) ?_
            refine tr_iadd (z := (nI (49 * r + (b + 1)))) hx hb dX0_insertAt_65 (iI_add _ _) ?_
            refine tr_ald (v := (iI (tr_hd B))) hx hb hK hP 12 0 rfl rfl (by decide) (by omega) (hch.next.rd) dX0_insertAt_66 ?_
            refine lv_istore (lv' := [(5, .int (iI (tr_hd B))), (4, .int (nI (k - 1))), (0, .ref (h 0)), (1, .int (nI r)), (2, .int (nI q)), (3, .int (nI (49 * r))), (6, .int (nI i))]) hx hb dX0_insertAt_67 hl (by decide) rfl (fun ls hl => ?_)
            refine lv_iinc (v := (nI (i + 1))) (lv' := [(6, .int (nI (i + 1))), (5, .int (iI (tr_hd B))), (4, .int (nI (k - 1))), (0, .ref (h 0)), (1, .int (nI r)), (2, .int (nI q)), (3, .int (nI (49 * r)))]) hx hb dX0_insertAt_69 hl (k := 6) rfl (nI_inc _) (by decide) rfl (fun ls hl => ?_)
            refine lv_goto (tgt := 19) hx hb dX0_insertAt_72 (by decide) ?_
            exact ih (i + 1, B, k - 1) ⟨by dsimp only; omega, hB2, hk2, by dsimp only; omega, b + 1, hch.next⟩ (Nat.lt_succ_self _) H locs ls hP hD hS (lv_sub hl [3, 4, 5, 6, 2, 1, 0] rfl)
          · skip
            subst c47
            rw [List.getElem?_cons_zero] at hk
            have hk : b = t := Option.some.inj hk
            refine lv_iload hx hb dX0_insertAt_50 (lv_at hl 5 rfl) ?_
            exact tr_iret (wv := wX h cI cZ) (u := u) hx hb hret hlk hK hP hD hS dX0_insertAt_52 (⟨rfl, by rw [iI_s, hk]⟩)
/-- the first shown from a list on -/
def tr_sk (S : TS) (r : Nat) (B : List Nat) : List Nat := B.dropWhile (fun c => S.tk r c)
theorem tr_sk_nil (S : TS) (r : Nat) : tr_sk S r [] = [] := rfl
theorem tr_sk_t {S : TS} {r b : Nat} (B : List Nat) (h : S.tk r b = true) : tr_sk S r (b :: B) = tr_sk S r B := List.dropWhile_cons_of_pos h
theorem tr_sk_f {S : TS} {r b : Nat} (B : List Nat) (h : S.tk r b = false) : tr_sk S r (b :: B) = b :: B := List.dropWhile_cons_of_neg (by rw [h]; decide)
set_option maxHeartbeats 4000000 in
theorem tr_X_shown (l : Launch) (D : va_G) (h : Nat → Nat) (cI cZ : ClassId) (S : TS) (u : XW) (hR : RepX S u) (r v0 : Nat) (B0 : List Nat) (hr : r < 3) (hlen : B0.length ≤ 48) (hsub : ∀ x, x ∈ B0 → x ∈ S.row r) (hid : ∀ x, x ∈ S.row r → x < 48) (hch0 : tr_chain (u.2 12) (49 * r) v0 B0) : tr_MR l yX0_shown cX0_shown 5 (some .int) 0 0 D tr_cl (tr_ty cI cZ) (wX h cI cZ) [.ref (h 0), .int (nI r), .int (iI (tr_hd B0))] u (fun z => z = iI (tr_hd (tr_sk S r B0))) := by
  refine tr_enterI RX0 rfl (by decide) (Nat.le_of_ble_eq_true rfl) ?_
  intro p e s m below meth c0 A ls S0 hret hlk hK hP hD hS hA hl
  have hx := S0.1
  have hb := S0.2.1
  have hl : lv_has ls 5 [(0, .ref (h 0)), (1, .int (nI r)), (2, .int (iI (tr_hd B0)))] := hl
  refine lv_iload_n hx hb dX0_shown_0 rfl (lv_at hl 2 rfl) ?_
  refine lv_istore_n (lv' := [(3, .int (iI (tr_hd B0))), (0, .ref (h 0)), (1, .int (nI r)), (2, .int (iI (tr_hd B0)))]) hx hb dX0_shown_1 rfl hl (by decide) rfl (fun ls hl => ?_)
  refine lv_iconst (v := (nI 0)) hx hb dX0_shown_2 (by decide +kernel) ?_
  refine lv_istore (lv' := [(4, .int (nI 0)), (3, .int (iI (tr_hd B0))), (0, .ref (h 0)), (1, .int (nI r)), (2, .int (iI (tr_hd B0)))]) hx hb dX0_shown_3 hl (by decide) rfl (fun ls hl => ?_)
  refine tr_loop (wv := wX h cI cZ) (τ := Nat × List Nat) (lv := fun st => [(0, .ref (h 0)), (1, .int (nI r)), (2, .int (iI (tr_hd B0))), (3, .int (iI (tr_hd st.2))), (4, .int (nI st.1))]) (ww := fun _ => u) (I := fun st => st.1 + st.2.length ≤ 48 ∧ (∀ x, x ∈ st.2 → x ∈ S.row r) ∧ tr_sk S r st.2 = tr_sk S r B0 ∧ ∃ v, tr_chain (u.2 12) (49 * r) v st.2) (μ := fun st => st.2.length) ?_ (0, B0) ⟨by dsimp only; omega, hsub, rfl, v0, hch0⟩ hP hD hS (lv_sub hl [2, 3, 4, 1, 0] rfl)
  rintro ⟨i, B⟩ ⟨hi, hB, hk, v, hch⟩ ih H locs ls hP hD hS hl
  dsimp only at hi hB hk hch
  cases B with
  | nil =>
    have hl : lv_has ls 5 [(0, .ref (h 0)), (1, .int (nI r)), (2, .int (iI (tr_hd B0))), (3, .int (iI 0)), (4, .int (nI i))] := hl
    rw [List.length_nil] at hi
    refine lv_iload hx hb dX0_shown_5 (lv_at hl 4 rfl) ?_
    refine lv_bipush (v := (nI 48)) hx hb dX0_shown_7 (by decide +kernel) ?_
    refine tr_cge (tgt := 52) hx hb dX0_shown_9 (by decide) (by omega) (by omega) (fun c9 => ?_) (fun c9 => ?_)
    · skip
      refine lv_iload_n hx hb dX0_shown_52 rfl (lv_at hl 3 rfl) ?_
      exact tr_iret (wv := wX h cI cZ) (u := u) hx hb hret hlk hK hP hD hS dX0_shown_53 (⟨rfl, by rw [← hk]; rfl⟩)
    · skip
      refine lv_iload_n hx hb dX0_shown_12 rfl (lv_at hl 3 rfl) ?_
      refine tr_fltI (tgt := 52) hx hb dX0_shown_13 (by decide) (by omega) (fun c13 => ?_) (fun c13 => ?_)
      · skip
        refine lv_iload_n hx hb dX0_shown_52 rfl (lv_at hl 3 rfl) ?_
        exact tr_iret (wv := wX h cI cZ) (u := u) hx hb hret hlk hK hP hD hS dX0_shown_53 (⟨rfl, by rw [← hk]; rfl⟩)
      · skip
        exact absurd rfl c13
  | cons b B =>
    have hl : lv_has ls 5 [(0, .ref (h 0)), (1, .int (nI r)), (2, .int (iI (tr_hd B0))), (3, .int (iI (b + 1))), (4, .int (nI i))] := hl
    have hbm : b ∈ S.row r := hB b List.mem_cons_self
    have hb48 := hid b hbm
    rw [List.length_cons] at hi
    have hB2 : ∀ x, x ∈ B → x ∈ S.row r := fun x hx => hB x (List.mem_cons_of_mem _ hx)
    refine lv_iload hx hb dX0_shown_5 (lv_at hl 4 rfl) ?_
    refine lv_bipush (v := (nI 48)) hx hb dX0_shown_7 (by decide +kernel) ?_
    refine tr_cge (tgt := 52) hx hb dX0_shown_9 (by decide) (by omega) (by omega) (fun c9 => ?_) (fun c9 => ?_)
    · skip
      omega
    · skip
      refine lv_iload_n hx hb dX0_shown_12 rfl (lv_at hl 3 rfl) ?_
      refine tr_fltI (tgt := 52) hx hb dX0_shown_13 (by decide) (by omega) (fun c13 => ?_) (fun c13 => ?_)
      · skip
        omega
      · skip
        refine lv_aload_n hx hb dX0_shown_16 rfl (lv_at hl 0 rfl) ?_
        refine tr_xg (x := .ref (h 13)) S0 hK hP 13 (by decide) q40 rfl rfl dX0_shown_17 ?_
        refine lv_bipush (v := (nI 49)) hx hb dX0_shown_20 (by decide +kernel) ?_
        refine lv_iload_n hx hb dX0_shown_22 rfl (lv_at hl 1 rfl) ?_
        refine tr_imul (z := (nI (49 * r))) hx hb dX0_shown_23 (pk_mul _ _) ?_
        refine lv_iconst (v := (nI 1)) hx hb dX0_shown_24 (by decide +kernel) ?_
        refine tr_iadd (z := (nI (49 * r + 1))) hx hb dX0_shown_25 (nI_add _ _) ?_
        refine lv_iload_n hx hb dX0_shown_26 rfl (lv_at hl 3 rfl) ?_
        refine tr_iadd (z := (nI (49 * r + (b + 1)))) hx hb dX0_shown_27 (iI_add _ _) ?_
        refine tr_zld (v := (bI (S.tk r b))) hx hb hK hP 13 1 rfl rfl (by decide) (by omega) (hR.tk r hr b hbm) dX0_shown_28 ?_
        refine tr_feqB (tgt := 52) hx hb dX0_shown_29 (by decide) (fun c29 => ?_) (fun c29 => ?_)
        · skip
          refine lv_iload_n hx hb dX0_shown_52 rfl (lv_at hl 3 rfl) ?_
          exact tr_iret (wv := wX h cI cZ) (u := u) hx hb hret hlk hK hP hD hS dX0_shown_53 (⟨rfl, by rw [← hk, tr_sk_f B c29]; rfl⟩)
        · skip
          refine lv_aload_n hx hb dX0_shown_32 rfl (lv_at hl 0 rfl) ?_
          refine tr_xg (x := .ref (h 12)) S0 hK hP 12 (by decide) q39 rfl rfl dX0_shown_33 ?_
          refine lv_bipush (v := (nI 49)) hx hb dX0_shown_36 (by decide +kernel) ?_
          refine lv_iload_n hx hb dX0_shown_38 rfl (lv_at hl 1 rfl) ?_
          refine tr_imul (z := (nI (49 * r))) hx hb dX0_shown_39 (pk_mul _ _) ?_
          refine lv_iconst (v := (nI 1)) hx hb dX0_shown_40 (by decide +kernel) ?_
          refine tr_iadd (z := (nI (49 * r + 1))) hx hb dX0_shown_41 (nI_add _ _) ?_
          refine lv_iload_n hx hb dX0_shown_42 rfl (lv_at hl 3 rfl) ?_
          refine tr_iadd (z := (nI (49 * r + (b + 1)))) hx hb dX0_shown_43 (iI_add _ _) ?_
          refine tr_ald (v := (iI (tr_hd B))) hx hb hK hP 12 0 rfl rfl (by decide) (by omega) (hch.next.rd) dX0_shown_44 ?_
          refine lv_istore_n (lv' := [(3, .int (iI (tr_hd B))), (0, .ref (h 0)), (1, .int (nI r)), (2, .int (iI (tr_hd B0))), (4, .int (nI i))]) hx hb dX0_shown_45 rfl hl (by decide) rfl (fun ls hl => ?_)
          refine lv_iinc (v := (nI (i + 1))) (lv' := [(4, .int (nI (i + 1))), (3, .int (iI (tr_hd B))), (0, .ref (h 0)), (1, .int (nI r)), (2, .int (iI (tr_hd B0)))]) hx hb dX0_shown_46 hl (k := 4) rfl (nI_inc _) (by decide) rfl (fun ls hl => ?_)
          refine lv_goto (tgt := 5) hx hb dX0_shown_49 (by decide) ?_
          exact ih (i + 1, B) ⟨by dsimp only; omega, hB2, by rw [← hk]; exact (tr_sk_t B c29).symm, b + 1, hch.next⟩ (Nat.lt_succ_self _) H locs ls hP hD hS (lv_sub hl [2, 3, 4, 1, 0] rfl)
end
section
/-! X: takeAway, putInRow, learn, newChange (printed by gen/x_put.py) -/
set_option maxRecDepth 100000
set_option maxHeartbeats 4000000 in
theorem tr_X_takeAway (l : Launch) (D : va_G) (h : Nat → Nat) (cI cZ : ClassId) (S : TS) (u : XW) (hR : RepX S u) (r c : Nat) (hr : r < 3) (hc : c ∈ S.row r) (hnd : (S.row r).Nodup) (hid : ∀ r', r' < 3 → ∀ x, x ∈ S.row r' → x < 48) : tr_MV l yX0_takeAway cX0_takeAway 4 0 0 D tr_cl (tr_ty cI cZ) (wX h cI cZ) [.ref (h 0), .int (nI r), .int (nI c)] u (fun w => RepX (tr_take S r c) w) := by
  refine tr_enterV RX0 rfl (by decide) (Nat.le_of_ble_eq_true rfl) ?_
  intro p e s m below meth c0 A ls S0 hret hlk hK hP hD hS hA hl
  have hx := S0.1
  have hb := S0.2.1
  have hl : lv_has ls 4 [(0, .ref (h 0)), (1, .int (nI r)), (2, .int (nI c))] := hl
  have hc48 := hid r hr c hc
  refine lv_bipush (v := (nI 49)) hx hb dX0_takeAway_0 (by decide +kernel) ?_
  refine lv_iload_n hx hb dX0_takeAway_2 rfl (lv_at hl 1 rfl) ?_
  refine tr_imul (z := (nI (49 * r))) hx hb dX0_takeAway_3 (pk_mul _ _) ?_
  refine lv_iconst (v := (nI 1)) hx hb dX0_takeAway_4 (by decide +kernel) ?_
  refine tr_iadd (z := (nI (49 * r + 1))) hx hb dX0_takeAway_5 (nI_add _ _) ?_
  refine lv_iload_n hx hb dX0_takeAway_6 rfl (lv_at hl 2 rfl) ?_
  refine tr_iadd (z := (nI (49 * r + (c + 1)))) hx hb dX0_takeAway_7 (nI_add1 _ _) ?_
  refine lv_istore_n (lv' := [(3, .int (nI (49 * r + (c + 1)))), (0, .ref (h 0)), (1, .int (nI r)), (2, .int (nI c))]) hx hb dX0_takeAway_8 rfl hl (by decide) rfl (fun ls hl => ?_)
  refine lv_aload_n hx hb dX0_takeAway_9 rfl (lv_at hl 1 rfl) ?_
  refine tr_xg (x := .ref (h 13)) S0 hK hP 13 (by decide) q40 rfl rfl dX0_takeAway_10 ?_
  refine lv_iload_n hx hb dX0_takeAway_13 rfl (lv_at hl 0 rfl) ?_
  refine tr_zld (v := (bI (S.tk r c))) hx hb hK hP 13 1 rfl rfl (by decide) (by omega) (hR.tk r hr c hc) dX0_takeAway_14 ?_
  refine tr_fneB (tgt := 35) hx hb dX0_takeAway_15 (by decide) (fun c15 => ?_) (fun c15 => ?_)
  · skip
    exact tr_vret (wv := wX h cI cZ) (u := u) hx hb hret hlk hK hP hD hS dX0_takeAway_35 (hR.take1 c15)
  · skip
    have htx : 1 ≤ (tr_tx S r).length := by
      have hm : c ∈ tr_tx S r := List.mem_filter.mpr ⟨hc, by rw [c15]; rfl⟩
      exact List.length_pos_of_mem hm
    refine lv_aload_n hx hb dX0_takeAway_18 rfl (lv_at hl 1 rfl) ?_
    refine tr_xg (x := .ref (h 13)) S0 hK hP 13 (by decide) q40 rfl rfl dX0_takeAway_19 ?_
    refine lv_iload_n hx hb dX0_takeAway_22 rfl (lv_at hl 0 rfl) ?_
    refine lv_iconst (v := (bI true)) hx hb dX0_takeAway_23 (by decide +kernel) ?_
    refine tr_zst (ws' := wX h cI cZ (sX u 13 (49 * r + (c + 1)) (bI true))) hx hb hK hP hD hS 13 1 rfl rfl (by decide) (by omega) (bI_nar _) rfl dX0_takeAway_24 (fun H locs hP hD hS => ?_)
    refine lv_aload_n hx hb dX0_takeAway_25 rfl (lv_at hl 1 rfl) ?_
    refine tr_xg (x := .ref (h 15)) S0 hK hP 15 (by decide) q42 rfl rfl dX0_takeAway_26 ?_
    refine lv_iload_n hx hb dX0_takeAway_29 rfl (lv_at hl 2 rfl) ?_
    refine lv_dup2_11 hx hb dX0_takeAway_30 rfl rfl ?_
    refine tr_ald (v := (nI ((tr_tx S r).length))) hx hb hK hP 15 0 rfl rfl (by decide) (by omega) (hR.tl r hr) dX0_takeAway_31 ?_
    refine lv_iconst (v := (nI 1)) hx hb dX0_takeAway_32 (by decide +kernel) ?_
    refine tr_isub (z := (nI ((tr_tx S r).length - 1))) hx hb dX0_takeAway_33 (pk_sub htx) ?_
    refine tr_ast (ws' := wX h cI cZ (sX (sX u 13 (49 * r + (c + 1)) (bI true)) 15 r (nI ((tr_tx S r).length - 1)))) hx hb hK hP hD hS 15 0 rfl rfl (by decide) (by omega) rfl dX0_takeAway_34 (fun H locs hP hD hS => ?_)
    exact tr_vret (wv := wX h cI cZ) (u := (sX (sX u 13 (49 * r + (c + 1)) (bI true)) 15 r (nI ((tr_tx S r).length - 1)))) hx hb hret hlk hK hP hD hS dX0_takeAway_35 (hR.take2 hr hc hnd hid c15)

set_option maxHeartbeats 4000000 in
theorem tr_X_putInRow (l : Launch) (D : va_G) (h : Nat → Nat) (cI cZ : ClassId) (S : TS) (u : XW) (hR : RepX S u) (h1 : tr_I1 S) (r c : Nat) (hr : r < 3) (hc : c < S.n) (ic : S.ins c = true) (hcr : c ∉ S.row r) (hnd : (S.row r).Nodup) (hrows : ∀ r', r' < 3 → ∀ x, x ∈ S.row r' → x < S.n ∧ S.ins x = true) (hlen : (S.row r).length < 48) (hgr : S.gr r ≤ 48) (hanc : S.pa c = 0 ∨ ∃ a, S.pa c = a + 1 ∧ a ∈ S.row r) : tr_MV l yX0_putInRow cX0_putInRow 6 1 22 D tr_cl (tr_ty cI cZ) (wX h cI cZ) [.ref (h 0), .int (nI r), .int (nI c)] u (fun w => RepX (tr_place S r c) w) := by
  refine tr_enterV RX0 rfl (by decide) (Nat.le_of_ble_eq_true rfl) ?_
  intro p e s m below meth c0 A ls S0 hret hlk hK hP hD hS hA hl
  have hx := S0.1
  have hb := S0.2.1
  have hl : lv_has ls 6 [(0, .ref (h 0)), (1, .int (nI r)), (2, .int (nI c))] := hl
  have hn := h1.1
  have hpa := (h1.2 c hc).2.1
  have hst := ((h1.2 c hc).2.2.1 ic).2
  have hid : ∀ r', r' < 3 → ∀ x, x ∈ S.row r' → x < 48 := fun r' hr' x hx => by have := (hrows r' hr' x hx).1; omega
  have htxl := tr_tx_le S r
  obtain ⟨A1, B0, hAB, hcut⟩ := tr_cut_ex hanc
  have hch0 : tr_chain (u.2 12) (49 * r) (S.pa c) B0 := by
    have hch := hR.fol r hr
    rw [hAB] at hch
    have key : ∀ (X : List Nat) (w : Nat), tr_chain (u.2 12) (49 * r) w (X ++ B0) → tr_chain (u.2 12) (49 * r) (tr_end w X) B0 := by
      intro X
      induction X with
      | nil => intro w hw; exact hw
      | cons x X ih => intro w hw; exact ih (x + 1) hw.2
    rw [hcut.end_]
    exact key A1 0 hch
  refine tr_seg (D := D) (cl := tr_cl) (A := A) (wv := wX h cI cZ) (τ := List Nat × List Nat × Nat) (nL := 6) 71 (lv := fun st => [(0, .ref (h 0)), (1, .int (nI r)), (2, .int (nI c)), (3, .int (nI (49 * r))), (4, .int (nI (49 * r + st.2.2)))]) (sk := fun _ => []) (ww := fun _ => u) (I := fun st => S.row r = A1 ++ (st.1 ++ st.2.1) ∧ tr_cut st.2.2 (A1 ++ st.1) ∧ (∀ x, x ∈ st.1 → tr_ky S c < tr_ky S x) ∧ tr_chain (u.2 12) (49 * r) st.2.2 st.2.1 ∧ st.2.2 ≤ 48 ∧ ∀ x U, st.2.1 = x :: U → ¬ tr_ky S c < tr_ky S x) ?_ ?_
  · rintro ⟨T, B, v⟩ ⟨hrow, hcv, hT, hch, hv48, hU⟩ H locs ls hP hD hS hl
    dsimp only at hrow hcv hT hch hv48 hU
    have hl : lv_has ls 6 [(0, .ref (h 0)), (1, .int (nI r)), (2, .int (nI c)), (3, .int (nI (49 * r))), (4, .int (nI (49 * r + v)))] := hl
    refine lv_aload_n hx hb dX0_putInRow_71 rfl (lv_at hl 0 rfl) ?_
    refine tr_xg (x := .ref (h 12)) S0 hK hP 12 (by decide) q39 rfl rfl dX0_putInRow_72 ?_
    refine lv_iload_n hx hb dX0_putInRow_75 rfl (lv_at hl 3 rfl) ?_
    refine lv_iconst (v := (nI 1)) hx hb dX0_putInRow_76 (by decide +kernel) ?_
    refine tr_iadd (z := (nI (49 * r + 1))) hx hb dX0_putInRow_77 (nI_add _ _) ?_
    refine lv_iload_n hx hb dX0_putInRow_78 rfl (lv_at hl 2 rfl) ?_
    refine tr_iadd (z := (nI (49 * r + (c + 1)))) hx hb dX0_putInRow_79 (nI_add1 _ _) ?_
    refine lv_aload_n hx hb dX0_putInRow_80 rfl (lv_at hl 0 rfl) ?_
    refine tr_xg (x := .ref (h 12)) S0 hK hP 12 (by decide) q39 rfl rfl dX0_putInRow_81 ?_
    refine lv_iload hx hb dX0_putInRow_84 (lv_at hl 4 rfl) ?_
    refine tr_ald (v := (iI (tr_hd B))) hx hb hK hP 12 0 rfl rfl (by decide) (by omega) (hch.rd) dX0_putInRow_86 ?_
    refine tr_ast (ws' := wX h cI cZ (sX u 12 (49 * r + (c + 1)) (iI (tr_hd B)))) hx hb hK hP hD hS 12 0 rfl rfl (by decide) (by omega) rfl dX0_putInRow_87 (fun H locs hP hD hS => ?_)
    refine lv_aload_n hx hb dX0_putInRow_88 rfl (lv_at hl 0 rfl) ?_
    refine tr_xg (x := .ref (h 12)) S0 hK hP 12 (by decide) q39 rfl rfl dX0_putInRow_89 ?_
    refine lv_iload hx hb dX0_putInRow_92 (lv_at hl 4 rfl) ?_
    refine lv_iload_n hx hb dX0_putInRow_94 rfl (lv_at hl 2 rfl) ?_
    refine tr_ast (ws' := wX h cI cZ (sX (sX u 12 (49 * r + (c + 1)) (iI (tr_hd B))) 12 (49 * r + v) (nI c))) hx hb hK hP hD hS 12 0 rfl rfl (by decide) (by omega) rfl dX0_putInRow_95 (fun H locs hP hD hS => ?_)
    refine lv_aload_n hx hb dX0_putInRow_96 rfl (lv_at hl 0 rfl) ?_
    refine tr_xg (x := .ref (h 13)) S0 hK hP 13 (by decide) q40 rfl rfl dX0_putInRow_97 ?_
    refine lv_iload_n hx hb dX0_putInRow_100 rfl (lv_at hl 3 rfl) ?_
    refine lv_iconst (v := (nI 1)) hx hb dX0_putInRow_101 (by decide +kernel) ?_
    refine tr_iadd (z := (nI (49 * r + 1))) hx hb dX0_putInRow_102 (nI_add _ _) ?_
    refine lv_iload_n hx hb dX0_putInRow_103 rfl (lv_at hl 2 rfl) ?_
    refine tr_iadd (z := (nI (49 * r + (c + 1)))) hx hb dX0_putInRow_104 (nI_add1 _ _) ?_
    refine lv_iconst (v := (bI false)) hx hb dX0_putInRow_105 (by decide +kernel) ?_
    refine tr_zst (ws' := wX h cI cZ (sX (sX (sX u 12 (49 * r + (c + 1)) (iI (tr_hd B))) 12 (49 * r + v) (nI c)) 13 (49 * r + (c + 1)) (bI false))) hx hb hK hP hD hS 13 1 rfl rfl (by decide) (by omega) (bI_nar _) rfl dX0_putInRow_106 (fun H locs hP hD hS => ?_)
    refine lv_aload_n hx hb dX0_putInRow_107 rfl (lv_at hl 0 rfl) ?_
    refine tr_xg (x := .ref (h 14)) S0 hK hP 14 (by decide) q41 rfl rfl dX0_putInRow_108 ?_
    refine lv_iload_n hx hb dX0_putInRow_111 rfl (lv_at hl 1 rfl) ?_
    refine lv_dup2_11 hx hb dX0_putInRow_112 rfl rfl ?_
    refine tr_ald (v := (nI ((S.row r).length))) hx hb hK hP 14 0 rfl rfl (by decide) (by omega) (hR.rl r hr) dX0_putInRow_113 ?_
    refine lv_iconst (v := (nI 1)) hx hb dX0_putInRow_114 (by decide +kernel) ?_
    refine tr_iadd (z := (nI ((S.row r).length + 1))) hx hb dX0_putInRow_115 (nI_add _ _) ?_
    refine tr_ast (ws' := wX h cI cZ (sX (sX (sX (sX u 12 (49 * r + (c + 1)) (iI (tr_hd B))) 12 (49 * r + v) (nI c)) 13 (49 * r + (c + 1)) (bI false)) 14 r (nI ((S.row r).length + 1)))) hx hb hK hP hD hS 14 0 rfl rfl (by decide) (by omega) rfl dX0_putInRow_116 (fun H locs hP hD hS => ?_)
    refine lv_aload_n hx hb dX0_putInRow_117 rfl (lv_at hl 0 rfl) ?_
    refine tr_xg (x := .ref (h 15)) S0 hK hP 15 (by decide) q42 rfl rfl dX0_putInRow_118 ?_
    refine lv_iload_n hx hb dX0_putInRow_121 rfl (lv_at hl 1 rfl) ?_
    refine lv_dup2_11 hx hb dX0_putInRow_122 rfl rfl ?_
    refine tr_ald (v := (nI ((tr_tx S r).length))) hx hb hK hP 15 0 rfl rfl (by decide) (by omega) (hR.tl r hr) dX0_putInRow_123 ?_
    refine lv_iconst (v := (nI 1)) hx hb dX0_putInRow_124 (by decide +kernel) ?_
    refine tr_iadd (z := (nI ((tr_tx S r).length + 1))) hx hb dX0_putInRow_125 (nI_add _ _) ?_
    refine tr_ast (ws' := wX h cI cZ (sX (sX (sX (sX (sX u 12 (49 * r + (c + 1)) (iI (tr_hd B))) 12 (49 * r + v) (nI c)) 13 (49 * r + (c + 1)) (bI false)) 14 r (nI ((S.row r).length + 1))) 15 r (nI ((tr_tx S r).length + 1)))) hx hb hK hP hD hS 15 0 rfl rfl (by decide) (by omega) rfl dX0_putInRow_126 (fun H locs hP hD hS => ?_)
    refine lv_aload_n hx hb dX0_putInRow_127 rfl (lv_at hl 0 rfl) ?_
    refine tr_xg (x := .ref (h 6)) S0 hK hP 6 (by decide) q33 rfl rfl dX0_putInRow_128 ?_
    refine lv_iload_n hx hb dX0_putInRow_131 rfl (lv_at hl 2 rfl) ?_
    refine tr_ald (v := (nI (S.st c))) hx hb hK hP 6 0 rfl rfl (by decide) (by omega) (hR.st c hc ic) dX0_putInRow_132 ?_
    refine lv_aload_n hx hb dX0_putInRow_133 rfl (lv_at hl 0 rfl) ?_
    refine tr_xg (x := .ref (h 11)) S0 hK hP 11 (by decide) q38 rfl rfl dX0_putInRow_134 ?_
    refine lv_iload_n hx hb dX0_putInRow_137 rfl (lv_at hl 1 rfl) ?_
    refine tr_ald (v := (nI (S.gr r))) hx hb hK hP 11 0 rfl rfl (by decide) (by omega) (hR.gr r hr) dX0_putInRow_138 ?_
    refine tr_cle (tgt := 154) hx hb dX0_putInRow_139 (by decide) (by omega) (by omega) (fun c139 => ?_) (fun c139 => ?_)
    · skip
      exact tr_vret (wv := wX h cI cZ) (u := (sX (sX (sX (sX (sX u 12 (49 * r + (c + 1)) (iI (tr_hd B))) 12 (49 * r + v) (nI c)) 13 (49 * r + (c + 1)) (bI false)) 14 r (nI ((S.row r).length + 1))) 15 r (nI ((tr_tx S r).length + 1)))) hx hb hret hlk hK hP hD hS dX0_putInRow_154 (hR.place hr hrow hcut hcv hT hU hnd hcr (by omega) hid rfl (fun k hk => by match k, hk with | 0, _ => rfl | 1, _ => rfl | 2, _ => rfl | 3, _ => rfl | 4, _ => rfl | 5, _ => rfl | 6, _ => rfl | 7, _ => rfl | 8, _ => rfl | 9, _ => rfl | 10, _ => rfl | k + 11, hk => exact absurd hk (by omega)) (by rw [Nat.max_eq_left c139]; exact hR.gr r hr) (fun r' _ => rfl) rfl rfl rfl rfl)
    · skip
      refine lv_aload_n hx hb dX0_putInRow_142 rfl (lv_at hl 0 rfl) ?_
      refine tr_xg (x := .ref (h 11)) S0 hK hP 11 (by decide) q38 rfl rfl dX0_putInRow_143 ?_
      refine lv_iload_n hx hb dX0_putInRow_146 rfl (lv_at hl 1 rfl) ?_
      refine lv_aload_n hx hb dX0_putInRow_147 rfl (lv_at hl 0 rfl) ?_
      refine tr_xg (x := .ref (h 6)) S0 hK hP 6 (by decide) q33 rfl rfl dX0_putInRow_148 ?_
      refine lv_iload_n hx hb dX0_putInRow_151 rfl (lv_at hl 2 rfl) ?_
      refine tr_ald (v := (nI (S.st c))) hx hb hK hP 6 0 rfl rfl (by decide) (by omega) (hR.st c hc ic) dX0_putInRow_152 ?_
      refine tr_ast (ws' := wX h cI cZ (sX (sX (sX (sX (sX (sX u 12 (49 * r + (c + 1)) (iI (tr_hd B))) 12 (49 * r + v) (nI c)) 13 (49 * r + (c + 1)) (bI false)) 14 r (nI ((S.row r).length + 1))) 15 r (nI ((tr_tx S r).length + 1))) 11 r (nI (S.st c)))) hx hb hK hP hD hS 11 0 rfl rfl (by decide) (by omega) rfl dX0_putInRow_153 (fun H locs hP hD hS => ?_)
      exact tr_vret (wv := wX h cI cZ) (u := (sX (sX (sX (sX (sX (sX u 12 (49 * r + (c + 1)) (iI (tr_hd B))) 12 (49 * r + v) (nI c)) 13 (49 * r + (c + 1)) (bI false)) 14 r (nI ((S.row r).length + 1))) 15 r (nI ((tr_tx S r).length + 1))) 11 r (nI (S.st c)))) hx hb hret hlk hK hP hD hS dX0_putInRow_154 (hR.place hr hrow hcut hcv hT hU hnd hcr (by omega) hid rfl (fun k hk => by match k, hk with | 0, _ => rfl | 1, _ => rfl | 2, _ => rfl | 3, _ => rfl | 4, _ => rfl | 5, _ => rfl | 6, _ => rfl | 7, _ => rfl | 8, _ => rfl | 9, _ => rfl | 10, _ => rfl | k + 11, hk => exact absurd hk (by omega)) (by rw [Nat.max_eq_right (Nat.le_of_lt c139)]; exact tr_u_s) (fun r' hne => tr_u_n hne) rfl rfl rfl rfl)
  · intro seg
    refine lv_bipush (v := (nI 49)) hx hb dX0_putInRow_0 (by decide +kernel) ?_
    refine lv_iload_n hx hb dX0_putInRow_2 rfl (lv_at hl 1 rfl) ?_
    refine tr_imul (z := (nI (49 * r))) hx hb dX0_putInRow_3 (pk_mul _ _) ?_
    refine lv_istore_n (lv' := [(3, .int (nI (49 * r))), (0, .ref (h 0)), (1, .int (nI r)), (2, .int (nI c))]) hx hb dX0_putInRow_4 rfl hl (by decide) rfl (fun ls hl => ?_)
    refine lv_iload_n hx hb dX0_putInRow_5 rfl (lv_at hl 0 rfl) ?_
    refine lv_iconst (v := (nI 1)) hx hb dX0_putInRow_6 (by decide +kernel) ?_
    refine tr_iadd (z := (nI (49 * r + 1))) hx hb dX0_putInRow_7 (nI_add _ _) ?_
    refine lv_aload_n hx hb dX0_putInRow_8 rfl (lv_at hl 1 rfl) ?_
    refine tr_xg (x := .ref (h 5)) S0 hK hP 5 (by decide) q32 rfl rfl dX0_putInRow_9 ?_
    refine lv_iload_n hx hb dX0_putInRow_12 rfl (lv_at hl 3 rfl) ?_
    refine tr_ald (v := (iI (S.pa c))) hx hb hK hP 5 0 rfl rfl (by decide) (by omega) (hR.pa c hc ic) dX0_putInRow_13 ?_
    refine tr_iadd (z := (nI (49 * r + (S.pa c)))) hx hb dX0_putInRow_14 (iI_add _ _) ?_
    refine lv_istore (lv' := [(4, .int (nI (49 * r + (S.pa c)))), (3, .int (nI (49 * r))), (0, .ref (h 0)), (1, .int (nI r)), (2, .int (nI c))]) hx hb dX0_putInRow_15 hl (by decide) rfl (fun ls hl => ?_)
    refine lv_iconst (v := (nI 0)) hx hb dX0_putInRow_17 (by decide +kernel) ?_
    refine lv_istore (lv' := [(5, .int (nI 0)), (4, .int (nI (49 * r + (S.pa c)))), (3, .int (nI (49 * r))), (0, .ref (h 0)), (1, .int (nI r)), (2, .int (nI c))]) hx hb dX0_putInRow_18 hl (by decide) rfl (fun ls hl => ?_)
    refine tr_loop (wv := wX h cI cZ) (τ := List Nat × List Nat × Nat) (lv := fun st => [(0, .ref (h 0)), (1, .int (nI r)), (2, .int (nI c)), (3, .int (nI (49 * r))), (4, .int (nI (49 * r + st.2.2))), (5, .int (nI st.1.length))]) (ww := fun _ => u) (I := fun st => S.row r = A1 ++ (st.1 ++ st.2.1) ∧ tr_cut st.2.2 (A1 ++ st.1) ∧ (∀ x, x ∈ st.1 → tr_ky S c < tr_ky S x) ∧ tr_chain (u.2 12) (49 * r) st.2.2 st.2.1 ∧ st.2.2 ≤ 48) (μ := fun st => st.2.1.length) ?_ ([], B0, S.pa c) ⟨hAB, by rw [List.append_nil]; exact hcut, fun x hx => (by cases hx), hch0, by dsimp only; omega⟩ hP hD hS (lv_sub hl [3, 4, 5, 2, 1, 0] rfl)
    rintro ⟨T, B, v⟩ ⟨hrow, hcv, hT, hch, hv48⟩ ih H locs ls hP hD hS hl
    dsimp only at hrow hcv hT hch hv48
    have hTl : T.length + B.length < 48 := by have h2 := hlen; rw [hrow] at h2; simp only [List.length_append] at h2; omega
    cases B with
    | nil =>
      have hl : lv_has ls 6 [(0, .ref (h 0)), (1, .int (nI r)), (2, .int (nI c)), (3, .int (nI (49 * r))), (4, .int (nI (49 * r + v))), (5, .int (nI T.length))] := hl
      refine lv_iload hx hb dX0_putInRow_20 (lv_at hl 5 rfl) ?_
      refine lv_bipush (v := (nI 48)) hx hb dX0_putInRow_22 (by decide +kernel) ?_
      refine tr_cge (tgt := 71) hx hb dX0_putInRow_24 (by decide) (by omega) (by omega) (fun c24 => ?_) (fun c24 => ?_)
      · skip
        omega
      · skip
        refine lv_aload_n hx hb dX0_putInRow_27 rfl (lv_at hl 0 rfl) ?_
        refine tr_xg (x := .ref (h 12)) S0 hK hP 12 (by decide) q39 rfl rfl dX0_putInRow_28 ?_
        refine lv_iload hx hb dX0_putInRow_31 (lv_at hl 4 rfl) ?_
        refine tr_ald (v := (iI 0)) hx hb hK hP 12 0 rfl rfl (by decide) (by omega) (hch) dX0_putInRow_33 ?_
        refine tr_fltI (tgt := 71) hx hb dX0_putInRow_34 (by decide) (by omega) (fun c34 => ?_) (fun c34 => ?_)
        · skip
          exact seg (T, [], v) ⟨hrow, hcv, hT, hch, hv48, fun x U he => (by cases he)⟩ H locs ls hP hD hS (lv_sub hl [0, 1, 2, 3, 4] rfl)
        · skip
          exact absurd rfl c34
    | cons b B =>
      have hl : lv_has ls 6 [(0, .ref (h 0)), (1, .int (nI r)), (2, .int (nI c)), (3, .int (nI (49 * r))), (4, .int (nI (49 * r + v))), (5, .int (nI T.length))] := hl
      have hbm : b ∈ S.row r := by rw [hrow]; simp
      have hbn := (hrows r hr b hbm).1
      have hbi := (hrows r hr b hbm).2
      rw [List.length_cons] at hTl
      refine lv_iload hx hb dX0_putInRow_20 (lv_at hl 5 rfl) ?_
      refine lv_bipush (v := (nI 48)) hx hb dX0_putInRow_22 (by decide +kernel) ?_
      refine tr_cge (tgt := 71) hx hb dX0_putInRow_24 (by decide) (by omega) (by omega) (fun c24 => ?_) (fun c24 => ?_)
      · skip
        omega
      · skip
        refine lv_aload_n hx hb dX0_putInRow_27 rfl (lv_at hl 0 rfl) ?_
        refine tr_xg (x := .ref (h 12)) S0 hK hP 12 (by decide) q39 rfl rfl dX0_putInRow_28 ?_
        refine lv_iload hx hb dX0_putInRow_31 (lv_at hl 4 rfl) ?_
        refine tr_ald (v := (iI (b + 1))) hx hb hK hP 12 0 rfl rfl (by decide) (by omega) (hch.1) dX0_putInRow_33 ?_
        refine tr_fltI (tgt := 71) hx hb dX0_putInRow_34 (by decide) (by omega) (fun c34 => ?_) (fun c34 => ?_)
        · skip
          omega
        · skip
          refine lv_aload_n hx hb dX0_putInRow_37 rfl (lv_at hl 0 rfl) ?_
          refine lv_aload_n hx hb dX0_putInRow_38 rfl (lv_at hl 0 rfl) ?_
          refine tr_xg (x := .ref (h 12)) S0 hK hP 12 (by decide) q39 rfl rfl dX0_putInRow_39 ?_
          refine lv_iload hx hb dX0_putInRow_42 (lv_at hl 4 rfl) ?_
          refine tr_ald (v := (nI b)) hx hb hK hP 12 0 rfl rfl (by decide) (by omega) (hch.1.trans (iI_s b)) dX0_putInRow_44 ?_
          refine lv_iload_n hx hb dX0_putInRow_45 rfl (lv_at hl 2 rfl) ?_
          refine tr_callR (As := [.int (nI b), .int (nI c)]) (rest := []) S0 (tr_X_isGreater l D h cI cZ S u hR h1 b c hbn hc hbi ic) 2 (lw_V q101 q103 qs4 q17 q104) (by decide +kernel) ⟨Nat.le_of_ble_eq_true rfl, Nat.le_of_ble_eq_true rfl⟩ hK hP hD hS hA rfl rfl rfl hl.1 rfl (Nat.le_of_ble_eq_true rfl) dX0_putInRow_46 ⟨Nat.le_of_ble_eq_true rfl, Nat.le_of_ble_eq_true rfl⟩ (fun r46 hw46 H locs hP hS => ?_)
          subst hw46
          refine tr_feqB (tgt := 71) hx hb dX0_putInRow_49 (by decide) (fun c49 => ?_) (fun c49 => ?_)
          · skip
            have hng : ¬ tr_ky S c < tr_ky S b := of_decide_eq_false c49
            exact seg (T, b :: B, v) ⟨hrow, hcv, hT, hch, hv48, fun x U he => (by injection he with e1 e2; rw [← e1]; exact hng)⟩ H locs ls hP hD hS (lv_sub hl [0, 1, 2, 3, 4] rfl)
          · skip
            have hg : tr_ky S c < tr_ky S b := of_decide_eq_true c49
            refine lv_iload_n hx hb dX0_putInRow_52 rfl (lv_at hl 3 rfl) ?_
            refine lv_iconst (v := (nI 1)) hx hb dX0_putInRow_53 (by decide +kernel) ?_
            refine tr_iadd (z := (nI (49 * r + 1))) hx hb dX0_putInRow_54 (nI_add _ _) ?_
            refine lv_aload_n hx hb dX0_putInRow_55 rfl (lv_at hl 0 rfl) ?_
            refine tr_xg (x := .ref (h 12)) S0 hK hP 12 (by decide) q39 rfl rfl dX0_putInRow_56 ?_
            refine lv_iload hx hb dX0_putInRow_59 (lv_at hl 4 rfl) ?_
            refine tr_ald (v := (iI (b + 1))) hx hb hK hP 12 0 rfl rfl (by decide) (by omega) (hch.1) dX0_putInRow_61 ?_
            refine tr_iadd (z := (nI (49 * r + (b + 1)))) hx hb dX0_putInRow_62 (iI_add _ _) ?_
            refine lv_istore (lv' := [(4, .int (nI (49 * r + (b + 1)))), (0, .ref (h 0)), (1, .int (nI r)), (2, .int (nI c)), (3, .int (nI (49 * r))), (5, .int (nI T.length))]) hx hb dX0_putInRow_63 hl (by decide) rfl (fun ls hl => ?_)
            refine lv_iinc (v := (nI (T.length + 1))) (lv' := [(5, .int (nI (T.length + 1))), (4, .int (nI (49 * r + (b + 1)))), (0, .ref (h 0)), (1, .int (nI r)), (2, .int (nI c)), (3, .int (nI (49 * r)))]) hx hb dX0_putInRow_65 hl (k := 5) rfl (nI_inc _) (by decide) rfl (fun ls hl => ?_)
            refine lv_goto (tgt := 20) hx hb dX0_putInRow_68 (by decide) ?_
            exact ih (T ++ [b], B, b + 1) ⟨by dsimp only; rw [hrow]; simp, by dsimp only; exact Or.inr ⟨A1 ++ T, b, rfl, by simp⟩, fun x hx => (by dsimp only at hx; rcases List.mem_append.mp hx with q | q; exact hT x q; rw [List.mem_singleton.mp q]; exact hg), hch.next, by dsimp only; omega⟩ (Nat.lt_succ_self _) H locs ls hP hD hS (by rw [show (T ++ [b], B, b + 1).1.length = T.length + 1 by simp]; exact lv_sub hl [2, 3, 4, 5, 1, 0] rfl)
end
section
/-! X: newChange, learn (printed by gen/x_learn.py) -/
set_option maxRecDepth 100000
theorem tr_I.gr_le {S : TS} (h : tr_I S) {r : Nat} (hr : r < 3) : S.gr r ≤ S.n := by
  rcases (h.2.2.2.2.2.2 r hr).2 with e | ⟨c, hc, e⟩
  · omega
  · have := ((h.1.2 c hc.1).2.2.1 hc.2.1).2
    have := hc.1
    omega
theorem tr_I.rows {S : TS} (h : tr_I S) : ∀ r, r < 3 → ∀ x, x ∈ S.row r → x < S.n ∧ S.ins x = true := fun r hr x hx => by
  have := (h.mem hr).mp hx
  exact ⟨this.1, this.2.1⟩
theorem tr_I.id {S : TS} (h : tr_I S) : ∀ r, r < 3 → ∀ x, x ∈ S.row r → x < 48 := fun r hr x hx => by
  have h1 := (h.rows r hr x hx).1
  have h2 := h.1.1
  omega
theorem tr_I.notin {S : TS} (h : tr_I S) {r c : Nat} (hr : r < 3) (hk : tr_num S c = S.kv r (S.og c) + 1) : c ∉ S.row r := fun hm => by
  have h1 := ((h.mem hr).mp hm).2.2
  rw [tr_kn_iff] at h1
  omega
theorem tr_I.lt48 {S : TS} (h : tr_I S) {r c : Nat} (hr : r < 3) (hc : c < S.n) (hm : c ∉ S.row r) : (S.row r).length < 48 := by
  have h1 := tr_len_of_lt S.n (c :: S.row r) (List.nodup_cons.mpr ⟨hm, h.nodup hr⟩) (fun x hx => by
    rcases List.mem_cons.mp hx with e | hx
    · rw [e]; exact hc
    · exact (h.rows r hr x hx).1)
  have h2 := h.1.1
  rw [List.length_cons] at h1
  omega
theorem tr_I.anc {S : TS} (h : tr_I S) {r c a : Nat} (hr : r < 3) (hc : c < S.n) (hcl : ∀ a, S.pa c = a + 1 → tr_kn S r a = true) (e : S.pa c = a + 1) : a ∈ S.row r := by
  obtain ⟨-, g2, -, -, g5⟩ := h.1.2 c hc
  exact (h.mem hr).mpr ⟨by omega, (g5 a e).1, hcl a e⟩
set_option maxHeartbeats 4000000 in
theorem tr_X_newChange (l : Launch) (D : va_G) (h : Nat → Nat) (cI cZ : ClassId) (S : TS) (u : XW) (hR : RepX S u) (r : Nat) (b : Bool) (hr : r < 3) (hn : S.n < 48) : tr_MI l yX0_newChange cX0_newChange 4 (some .int) 0 0 D tr_cl (tr_ty cI cZ) (wX h cI cZ) [.ref (h 0), .int (nI r), .int (bI b)] u (fun z w => z = nI S.n ∧ w = (sX (sX (sX (sX (sX (nI (S.n + 1), u.2) 1 S.n (bI b)) 2 S.n (nI r)) 8 r (nI (tr_cnt S.og r S.n + 1))) 3 S.n (nI (tr_cnt S.og r S.n + 1))) 9 (49 * r + (tr_cnt S.og r S.n + 1)) (nI S.n))) := by
  refine tr_enterI RX0 rfl (by decide) (Nat.le_of_ble_eq_true rfl) ?_
  intro p e s m below meth c0 A ls S0 hret hlk hK hP hD hS hA hl
  have hx := S0.1
  have hb := S0.2.1
  have hl : lv_has ls 4 [(0, .ref (h 0)), (1, .int (nI r)), (2, .int (bI b))] := hl
  have hcn := tr_cnt_le S.og r S.n
  refine lv_aload_n hx hb dX0_newChange_0 rfl (lv_at hl 0 rfl) ?_
  refine tr_xg (x := .int (nI S.n)) S0 hK hP 0 (by decide) q27 rfl (by rw [← hR.made]; rfl) dX0_newChange_1 ?_
  refine lv_istore_n (lv' := [(3, .int (nI S.n)), (0, .ref (h 0)), (1, .int (nI r)), (2, .int (bI b))]) hx hb dX0_newChange_4 rfl hl (by decide) rfl (fun ls hl => ?_)
  refine lv_aload_n hx hb dX0_newChange_5 rfl (lv_at hl 1 rfl) ?_
  refine lv_dup hx hb dX0_newChange_6 rfl ?_
  refine tr_xg (x := .int (nI S.n)) S0 hK hP 0 (by decide) q27 rfl (by rw [← hR.made]; rfl) dX0_newChange_7 ?_
  refine lv_iconst (v := (nI 1)) hx hb dX0_newChange_10 (by decide +kernel) ?_
  refine tr_iadd (z := (nI (S.n + 1))) hx hb dX0_newChange_11 (nI_add _ _) ?_
  refine tr_xp S0 hK hP hD hS dX0_newChange_12 (fun H locs hP hD hS => ?_)
  have hP : va_P D tr_cl (wX h cI cZ (nI (S.n + 1), u.2)) H := hP
  have hD : va_D A (wX h cI cZ (nI (S.n + 1), u.2)) := hD
  refine lv_aload_n hx hb dX0_newChange_15 rfl (lv_at hl 1 rfl) ?_
  refine tr_xg (x := .ref (h 1)) S0 hK hP 1 (by decide) q28 rfl rfl dX0_newChange_16 ?_
  refine lv_iload_n hx hb dX0_newChange_19 rfl (lv_at hl 0 rfl) ?_
  refine lv_iload_n hx hb dX0_newChange_20 rfl (lv_at hl 3 rfl) ?_
  refine tr_zst (ws' := wX h cI cZ (sX (nI (S.n + 1), u.2) 1 S.n (bI b))) hx hb hK hP hD hS 1 1 rfl rfl (by decide) (by omega) (bI_nar _) rfl dX0_newChange_21 (fun H locs hP hD hS => ?_)
  refine lv_aload_n hx hb dX0_newChange_22 rfl (lv_at hl 1 rfl) ?_
  refine tr_xg (x := .ref (h 2)) S0 hK hP 2 (by decide) q29 rfl rfl dX0_newChange_23 ?_
  refine lv_iload_n hx hb dX0_newChange_26 rfl (lv_at hl 0 rfl) ?_
  refine lv_iload_n hx hb dX0_newChange_27 rfl (lv_at hl 2 rfl) ?_
  refine tr_ast (ws' := wX h cI cZ (sX (sX (nI (S.n + 1), u.2) 1 S.n (bI b)) 2 S.n (nI r))) hx hb hK hP hD hS 2 0 rfl rfl (by decide) (by omega) rfl dX0_newChange_28 (fun H locs hP hD hS => ?_)
  refine lv_aload_n hx hb dX0_newChange_29 rfl (lv_at hl 1 rfl) ?_
  refine tr_xg (x := .ref (h 8)) S0 hK hP 8 (by decide) q35 rfl rfl dX0_newChange_30 ?_
  refine lv_iload_n hx hb dX0_newChange_33 rfl (lv_at hl 2 rfl) ?_
  refine lv_dup2_11 hx hb dX0_newChange_34 rfl rfl ?_
  refine tr_ald (v := (nI (tr_cnt S.og r S.n))) hx hb hK hP 8 0 rfl rfl (by decide) (by omega) (hR.by r hr) dX0_newChange_35 ?_
  refine lv_iconst (v := (nI 1)) hx hb dX0_newChange_36 (by decide +kernel) ?_
  refine tr_iadd (z := (nI (tr_cnt S.og r S.n + 1))) hx hb dX0_newChange_37 (nI_add _ _) ?_
  refine tr_ast (ws' := wX h cI cZ (sX (sX (sX (nI (S.n + 1), u.2) 1 S.n (bI b)) 2 S.n (nI r)) 8 r (nI (tr_cnt S.og r S.n + 1)))) hx hb hK hP hD hS 8 0 rfl rfl (by decide) (by omega) rfl dX0_newChange_38 (fun H locs hP hD hS => ?_)
  refine lv_aload_n hx hb dX0_newChange_39 rfl (lv_at hl 1 rfl) ?_
  refine tr_xg (x := .ref (h 3)) S0 hK hP 3 (by decide) q30 rfl rfl dX0_newChange_40 ?_
  refine lv_iload_n hx hb dX0_newChange_43 rfl (lv_at hl 0 rfl) ?_
  refine lv_aload_n hx hb dX0_newChange_44 rfl (lv_at hl 1 rfl) ?_
  refine tr_xg (x := .ref (h 8)) S0 hK hP 8 (by decide) q35 rfl rfl dX0_newChange_45 ?_
  refine lv_iload_n hx hb dX0_newChange_48 rfl (lv_at hl 2 rfl) ?_
  refine tr_ald (v := (nI (tr_cnt S.og r S.n + 1))) hx hb hK hP 8 0 rfl rfl (by decide) (by omega) (tr_u_s) dX0_newChange_49 ?_
  refine tr_ast (ws' := wX h cI cZ (sX (sX (sX (sX (nI (S.n + 1), u.2) 1 S.n (bI b)) 2 S.n (nI r)) 8 r (nI (tr_cnt S.og r S.n + 1))) 3 S.n (nI (tr_cnt S.og r S.n + 1)))) hx hb hK hP hD hS 3 0 rfl rfl (by decide) (by omega) rfl dX0_newChange_50 (fun H locs hP hD hS => ?_)
  refine lv_aload_n hx hb dX0_newChange_51 rfl (lv_at hl 1 rfl) ?_
  refine tr_xg (x := .ref (h 9)) S0 hK hP 9 (by decide) q36 rfl rfl dX0_newChange_52 ?_
  refine lv_bipush (v := (nI 49)) hx hb dX0_newChange_55 (by decide +kernel) ?_
  refine lv_iload_n hx hb dX0_newChange_57 rfl (lv_at hl 2 rfl) ?_
  refine tr_imul (z := (nI (49 * r))) hx hb dX0_newChange_58 (pk_mul _ _) ?_
  refine lv_aload_n hx hb dX0_newChange_59 rfl (lv_at hl 1 rfl) ?_
  refine tr_xg (x := .ref (h 8)) S0 hK hP 8 (by decide) q35 rfl rfl dX0_newChange_60 ?_
  refine lv_iload_n hx hb dX0_newChange_63 rfl (lv_at hl 2 rfl) ?_
  refine tr_ald (v := (nI (tr_cnt S.og r S.n + 1))) hx hb hK hP 8 0 rfl rfl (by decide) (by omega) (tr_u_s) dX0_newChange_64 ?_
  refine tr_iadd (z := (nI (49 * r + (tr_cnt S.og r S.n + 1)))) hx hb dX0_newChange_65 (nI_add _ _) ?_
  refine lv_iload_n hx hb dX0_newChange_66 rfl (lv_at hl 0 rfl) ?_
  refine tr_ast (ws' := wX h cI cZ (sX (sX (sX (sX (sX (nI (S.n + 1), u.2) 1 S.n (bI b)) 2 S.n (nI r)) 8 r (nI (tr_cnt S.og r S.n + 1))) 3 S.n (nI (tr_cnt S.og r S.n + 1))) 9 (49 * r + (tr_cnt S.og r S.n + 1)) (nI S.n))) hx hb hK hP hD hS 9 0 rfl rfl (by decide) (by omega) rfl dX0_newChange_67 (fun H locs hP hD hS => ?_)
  refine lv_iload_n hx hb dX0_newChange_68 rfl (lv_at hl 0 rfl) ?_
  exact tr_iret (wv := wX h cI cZ) (u := (sX (sX (sX (sX (sX (nI (S.n + 1), u.2) 1 S.n (bI b)) 2 S.n (nI r)) 8 r (nI (tr_cnt S.og r S.n + 1))) 3 S.n (nI (tr_cnt S.og r S.n + 1))) 9 (49 * r + (tr_cnt S.og r S.n + 1)) (nI S.n))) hx hb hret hlk hK hP hD hS dX0_newChange_69 (⟨rfl, rfl⟩)

set_option maxHeartbeats 4000000 in
theorem tr_X_learn (l : Launch) (D : va_G) (h : Nat → Nat) (cI cZ : ClassId) (S : TS) (u : XW) (hR : RepX S u) (hI : tr_I S) (r c : Nat) (hr : r < 3) (hc : c < S.n) (hk : tr_num S c = S.kv r (S.og c) + 1) (hcl : ∀ a, S.pa c = a + 1 → tr_kn S r a = true) : tr_MV l yX0_learn cX0_learn 3 2 47 D tr_cl (tr_ty cI cZ) (wX h cI cZ) [.ref (h 0), .int (nI r), .int (nI c)] u (fun w => RepX (tr_learn S r c) w) := by
  refine tr_enterV RX0 rfl (by decide) (Nat.le_of_ble_eq_true rfl) ?_
  intro p e s m below meth c0 A ls S0 hret hlk hK hP hD hS hA hl
  have hx := S0.1
  have hb := S0.2.1
  have hl : lv_has ls 3 [(0, .ref (h 0)), (1, .int (nI r)), (2, .int (nI c))] := hl
  have hn := hI.1.1
  have ho := (hI.1.2 c hc).1
  refine lv_aload_n hx hb dX0_learn_0 rfl (lv_at hl 0 rfl) ?_
  refine tr_xg (x := .ref (h 10)) S0 hK hP 10 (by decide) q37 rfl rfl dX0_learn_1 ?_
  refine lv_iconst (v := (nI 3)) hx hb dX0_learn_4 (by decide +kernel) ?_
  refine lv_iload_n hx hb dX0_learn_5 rfl (lv_at hl 1 rfl) ?_
  refine tr_imul (z := (nI (3 * r))) hx hb dX0_learn_6 (pk_mul _ _) ?_
  refine lv_aload_n hx hb dX0_learn_7 rfl (lv_at hl 0 rfl) ?_
  refine tr_xg (x := .ref (h 2)) S0 hK hP 2 (by decide) q29 rfl rfl dX0_learn_8 ?_
  refine lv_iload_n hx hb dX0_learn_11 rfl (lv_at hl 2 rfl) ?_
  refine tr_ald (v := (nI (S.og c))) hx hb hK hP 2 0 rfl rfl (by decide) (by omega) (hR.og c hc) dX0_learn_12 ?_
  refine tr_iadd (z := (nI (3 * r + (S.og c)))) hx hb dX0_learn_13 (nI_add _ _) ?_
  refine lv_aload_n hx hb dX0_learn_14 rfl (lv_at hl 0 rfl) ?_
  refine tr_xg (x := .ref (h 3)) S0 hK hP 3 (by decide) q30 rfl rfl dX0_learn_15 ?_
  refine lv_iload_n hx hb dX0_learn_18 rfl (lv_at hl 2 rfl) ?_
  refine tr_ald (v := (nI (tr_num S c))) hx hb hK hP 3 0 rfl rfl (by decide) (by omega) (hR.num c hc) dX0_learn_19 ?_
  refine tr_ast (ws' := wX h cI cZ (sX u 10 (3 * r + (S.og c)) (nI (tr_num S c)))) hx hb hK hP hD hS 10 0 rfl rfl (by decide) (by omega) rfl dX0_learn_20 (fun H locs hP hD hS => ?_)
  have hR1 : RepX (tr_know S r c) (sX u 10 (3 * r + S.og c) (nI (tr_num S c))) := hR.know hr ho
  generalize (sX u 10 (3 * r + S.og c) (nI (tr_num S c))) = u1 at hR1 hP hD
  refine lv_aload_n hx hb dX0_learn_21 rfl (lv_at hl 0 rfl) ?_
  refine tr_xg (x := .ref (h 1)) S0 hK hP 1 (by decide) q28 rfl rfl dX0_learn_22 ?_
  refine lv_iload_n hx hb dX0_learn_25 rfl (lv_at hl 2 rfl) ?_
  refine tr_zld (v := (bI (S.ins c))) hx hb hK hP 1 1 rfl rfl (by decide) (by omega) (hR1.ins c hc) dX0_learn_26 ?_
  refine tr_feqB (tgt := 39) hx hb dX0_learn_27 (by decide) (fun c27 => ?_) (fun c27 => ?_)
  · skip
    obtain ⟨a, ea⟩ : ∃ a, S.pa c = a + 1 := ⟨S.pa c - 1, by have := (hI.1.2 c hc).2.2.2.1 c27; omega⟩
    have ham := hI.anc hr hc hcl ea
    have ha48 := hI.id r hr a ham
    refine lv_aload_n hx hb dX0_learn_39 rfl (lv_at hl 0 rfl) ?_
    refine lv_iload_n hx hb dX0_learn_40 rfl (lv_at hl 1 rfl) ?_
    refine lv_aload_n hx hb dX0_learn_41 rfl (lv_at hl 0 rfl) ?_
    refine tr_xg (x := .ref (h 7)) S0 hK hP 7 (by decide) q34 rfl rfl dX0_learn_42 ?_
    refine lv_iload_n hx hb dX0_learn_45 rfl (lv_at hl 2 rfl) ?_
    refine tr_ald (v := (nI a)) hx hb hK hP 7 0 rfl rfl (by decide) (by omega) (by rw [← iI_s, ← ea]; exact hR1.tg c hc c27) dX0_learn_46 ?_
    refine tr_callV (As := [.int (nI r), .int (nI a)]) (rest := []) S0 (tr_X_takeAway l D h cI cZ (tr_know S r c) u1 hR1 r a hr ham (hI.nodup hr) hI.id) 2 (lw_V q105 q107 qs5 q17 q108) (by decide +kernel) ⟨Nat.le_of_ble_eq_true rfl, Nat.le_of_ble_eq_true rfl⟩ hK hP hD hS hA rfl rfl rfl hl.1 rfl (Nat.le_of_ble_eq_true rfl) dX0_learn_47 ⟨Nat.le_of_ble_eq_true rfl, Nat.le_of_ble_eq_true rfl⟩ (fun u2 H locs hw47 hP hD hS => ?_)
    exact tr_vret (wv := wX h cI cZ) (u := u2) hx hb hret hlk hK hP hD hS dX0_learn_50 ((by unfold tr_learn; rw [if_neg (by rw [c27]; decide), ea]; exact hw47))
  · skip
    have hanc : S.pa c = 0 ∨ ∃ a, S.pa c = a + 1 ∧ a ∈ S.row r := by
      cases hp : S.pa c with
      | zero => exact Or.inl rfl
      | succ a => exact Or.inr ⟨a, rfl, hI.anc hr hc hcl hp⟩
    refine lv_aload_n hx hb dX0_learn_30 rfl (lv_at hl 0 rfl) ?_
    refine lv_iload_n hx hb dX0_learn_31 rfl (lv_at hl 1 rfl) ?_
    refine lv_iload_n hx hb dX0_learn_32 rfl (lv_at hl 2 rfl) ?_
    refine tr_callV (As := [.int (nI r), .int (nI c)]) (rest := []) S0 (tr_X_putInRow l D h cI cZ (tr_know S r c) u1 hR1 hI.1 r c hr hc c27 (hI.notin hr hk) (hI.nodup hr) hI.rows (hI.lt48 hr hc (hI.notin hr hk)) (by have := hI.gr_le hr; have h8 : (tr_know S r c).gr r = S.gr r := rfl; omega) hanc) 2 (lw_V q97 q99 qs3 q17 q100) (by decide +kernel) ⟨Nat.le_of_ble_eq_true rfl, Nat.le_of_ble_eq_true rfl⟩ hK hP hD hS hA rfl rfl rfl hl.1 rfl (Nat.le_of_ble_eq_true rfl) dX0_learn_33 ⟨Nat.le_of_ble_eq_true rfl, Nat.le_of_ble_eq_true rfl⟩ (fun u2 H locs hw33 hP hD hS => ?_)
    refine lv_goto (tgt := 50) hx hb dX0_learn_36 (by decide) ?_
    exact tr_vret (wv := wX h cI cZ) (u := u2) hx hb hret hlk hK hP hD hS dX0_learn_50 ((by unfold tr_learn; rw [if_pos c27]; exact hw33))
end
section
/-! PURE: the invariant is kept -/
theorem tr_row.congrK {pa ky : Nat → Nat} {K K' : Nat → Prop} {L : List Nat} (h : tr_row pa ky K L) (e : ∀ x, K x ↔ K' x) : tr_row pa ky K' L := ⟨h.1, fun c => (h.2 c).trans (e c)⟩
theorem tr_row.congrP {pa ky pa' ky' : Nat → Nat} {K : Nat → Prop} {L : List Nat} {n : Nat} (h : tr_row pa ky K L) (hn : ∀ c, K c → c < n) (e : ∀ c, c < n → pa c = pa' c ∧ ky c = ky' c) : tr_row pa' ky' K L := by
  refine ⟨?_, h.2⟩
  refine List.Pairwise.imp_of_mem ?_ h.1
  intro a b ha hb hab
  have h1 := hn a ((h.2 a).mp ha)
  have h2 := hn b ((h.2 b).mp hb)
  rw [← tr_path_congr n e (a + 1) (by omega), ← tr_path_congr n e (b + 1) (by omega)]
  exact hab
/-! learn -/
theorem tr_learn_n (S : TS) (r c : Nat) : (tr_learn S r c).n = S.n := by unfold tr_learn; split <;> rfl
theorem tr_learn_og (S : TS) (r c : Nat) : (tr_learn S r c).og = S.og := by unfold tr_learn; split <;> rfl
theorem tr_learn_ins (S : TS) (r c : Nat) : (tr_learn S r c).ins = S.ins := by unfold tr_learn; split <;> rfl
theorem tr_learn_pa (S : TS) (r c : Nat) : (tr_learn S r c).pa = S.pa := by unfold tr_learn; split <;> rfl
theorem tr_learn_le (S : TS) (r c : Nat) : (tr_learn S r c).le = S.le := by unfold tr_learn; split <;> rfl
theorem tr_learn_st (S : TS) (r c : Nat) : (tr_learn S r c).st = S.st := by unfold tr_learn; split <;> rfl
theorem tr_learn_kv (S : TS) (r c : Nat) : (tr_learn S r c).kv = va_up S.kv r (va_up (S.kv r) (S.og c) (tr_num S c)) := by unfold tr_learn; split <;> rfl
theorem tr_learn_ky (S : TS) (r c : Nat) : tr_ky (tr_learn S r c) = tr_ky S := by
  funext d
  unfold tr_ky
  rw [tr_learn_st, tr_learn_og]
theorem tr_learn_num (S : TS) (r c d : Nat) : tr_num (tr_learn S r c) d = tr_num S d := by
  unfold tr_num
  rw [tr_learn_og]
theorem tr_learn_kn_ne (S : TS) {r c r' : Nat} (h : r' ≠ r) (d : Nat) : tr_kn (tr_learn S r c) r' d = tr_kn S r' d := by
  unfold tr_kn
  rw [tr_learn_num, tr_learn_og, tr_learn_kv, tr_vn h]
theorem tr_learn_kn {S : TS} {r c : Nat} (hk : tr_num S c = S.kv r (S.og c) + 1) (d : Nat) : tr_kn (tr_learn S r c) r d = true ↔ tr_kn S r d = true ∨ d = c := by
  rw [tr_kn_iff, tr_kn_iff, tr_learn_num, tr_learn_og, tr_learn_kv, tr_vs]
  by_cases e : S.og d = S.og c
  · rw [e, tr_vs]
    constructor
    · intro h
      by_cases e2 : tr_num S d = tr_num S c
      · exact Or.inr (tr_num_inj S e e2)
      · exact Or.inl (by omega)
    · rintro (h | h)
      · omega
      · rw [h]; omega
  · rw [tr_vn e]
    constructor
    · exact Or.inl
    · rintro (h | h)
      · exact h
      · exact absurd (by rw [h]) e
theorem tr_I_learn {S : TS} {r c : Nat} (h : tr_I S) (hr : r < 3) (hc : c < S.n) (hk : tr_num S c = S.kv r (S.og c) + 1) (hcl : ∀ a, S.pa c = a + 1 → tr_kn S r a = true) : tr_I (tr_learn S r c) := by
  have htree := h.tree hr
  have hnot := h.notin hr hk
  have hnk : ¬ tr_kn S r c = true := by rw [tr_kn_iff]; omega
  obtain ⟨h1, h2, h3, h4, h5, h6, h7⟩ := h
  have hkn := tr_learn_kn hk
  have hkne := fun (r' : Nat) (e : r' ≠ r) (d : Nat) => tr_learn_kn_ne S (c := c) e d
  have hKn : ∀ r', r' ≠ r → ∀ d, tr_K S r' d ↔ tr_K (tr_learn S r c) r' d := by
    intro r' e d
    unfold tr_K
    rw [hkne r' e d, tr_learn_n, tr_learn_ins]
  obtain ⟨g1, g2, g3, g4, g5⟩ := h1.2 c hc
  refine ⟨?_, ?_, ?_, ?_, ?_, ?_, ?_⟩
  · unfold tr_I1
    rw [tr_learn_n, tr_learn_og, tr_learn_pa, tr_learn_ins, tr_learn_st]
    exact h1
  · unfold tr_I2
    rw [tr_learn_n, tr_learn_ins, tr_learn_ky]
    exact h2
  · intro r' hr' o ho
    rw [tr_learn_kv, tr_learn_og, tr_learn_n]
    by_cases e : r' = r
    · subst e
      rw [tr_vs]
      by_cases e2 : o = S.og c
      · subst e2
        rw [tr_vs]
        exact tr_num_le S hc
      · rw [tr_vn e2]
        exact h3 r' hr' o ho
    · rw [tr_vn e]
      exact h3 r' hr' o ho
  · intro r' hr' d hd hkd a ha
    rw [tr_learn_n] at hd
    rw [tr_learn_pa] at ha
    by_cases e : r' = r
    · subst e
      rw [hkn] at hkd ⊢
      rcases hkd with q | q
      · exact Or.inl (h4 r' hr' d hd q a ha)
      · rw [q] at ha
        exact Or.inl (hcl a ha)
    · rw [hkne r' e] at hkd ⊢
      exact h4 r' hr' d hd hkd a ha
  · intro r' hr'
    rw [tr_learn_pa, tr_learn_ky]
    by_cases e : r' = r
    · subst e
      by_cases hi : S.ins c = true
      · have hrow : (tr_learn S r' c).row r' = tr_putL (tr_ky S) (S.pa c) c (S.row r') := by
          unfold tr_learn
          rw [if_pos hi]
          exact tr_vs
        rw [hrow]
        have hcut : S.pa c = 0 ∨ ∃ a, S.pa c = a + 1 ∧ a ∈ S.row r' := by
          cases hp : S.pa c with
          | zero => exact Or.inl rfl
          | succ a => exact Or.inr ⟨a, rfl, ((h5 r' hr').2 a).mpr ⟨by omega, (g5 a hp).1, hcl a hp⟩⟩
        obtain ⟨A, B, hAB, hA⟩ := tr_cut_ex hcut
        obtain ⟨T, U, hTU, -, hT, hU⟩ := tr_insB_split (tr_ky S) c B
        rw [hTU] at hAB
        have hr5 := h5 r' hr'
        rw [hAB, tr_putL_eq (by rw [← hAB]; exact hr5.nodup) hA hT hU]
        rw [hAB] at hr5
        refine (tr_ins htree g2 (fun a ha => ?_) (fun x hx e => ?_) hr5 hA hT hU).congrK (fun x => ?_)
        · have ha2 : a < S.n := by omega
          have ha3 := (h1.2 a ha2).1
          refine ⟨⟨ha2, (g5 a ha).1, hcl a ha⟩, ?_⟩
          have := (g5 a ha).2 hi
          unfold tr_ky
          omega
        · have := h2 x c hx.1 hc hx.2.1 hi e
          rw [this] at hx
          exact hnk hx.2.2
        · unfold tr_K
          rw [tr_learn_n, tr_learn_ins, hkn]
          constructor
          · rintro (⟨q1, q2, q3⟩ | q)
            · exact ⟨q1, q2, Or.inl q3⟩
            · rw [q]; exact ⟨hc, hi, Or.inr rfl⟩
          · rintro ⟨q1, q2, q3 | q3⟩
            · exact Or.inl ⟨q1, q2, q3⟩
            · exact Or.inr q3
      · have hrow : (tr_learn S r' c).row r' = S.row r' := by
          unfold tr_learn
          rw [if_neg hi]
          rfl
        rw [hrow]
        refine (h5 r' hr').congrK (fun x => ?_)
        unfold tr_K
        rw [tr_learn_n, tr_learn_ins, hkn]
        constructor
        · rintro ⟨q1, q2, q3⟩
          exact ⟨q1, q2, Or.inl q3⟩
        · rintro ⟨q1, q2, q3 | q3⟩
          · exact ⟨q1, q2, q3⟩
          · rw [q3] at q2; exact absurd q2 hi
    · have hrow : (tr_learn S r c).row r' = S.row r' := by
        unfold tr_learn
        split
        · exact tr_vn e
        · rfl
      rw [hrow]
      exact (h5 r' hr').congrK (hKn r' e)
  · intro r' hr' d hd
    rw [tr_learn_n, tr_learn_ins, tr_learn_pa]
    by_cases e : r' = r
    · subst e
      by_cases hi : S.ins c = true
      · have hrow : (tr_learn S r' c).row r' = tr_putL (tr_ky S) (S.pa c) c (S.row r') := by
          unfold tr_learn
          rw [if_pos hi]
          exact tr_vs
        have htk : (tr_learn S r' c).tk r' = va_up (S.tk r') c false := by
          unfold tr_learn
          rw [if_pos hi]
          exact tr_vs
        rw [htk]
        by_cases e2 : d = c
        · subst e2
          rw [tr_vs]
          constructor
          · intro q; cases q
          · rintro ⟨x, q1, q2, q3, q4⟩
            exfalso
            rw [hkn] at q3
            rcases q3 with q3 | q3
            · exact hnk (h4 r' hr' x q1 q3 d q4)
            · rw [q3, hi] at q2; cases q2
        · rw [tr_vn e2]
          have hd' : d ∈ S.row r' := by
            have hcut : S.pa c = 0 ∨ ∃ a, S.pa c = a + 1 ∧ a ∈ S.row r' := by
              cases hp : S.pa c with
              | zero => exact Or.inl rfl
              | succ a => exact Or.inr ⟨a, rfl, ((h5 r' hr').2 a).mpr ⟨by omega, (g5 a hp).1, hcl a hp⟩⟩
            obtain ⟨A, B, hAB, hA⟩ := tr_cut_ex hcut
            obtain ⟨T, U, hTU, -, hT, hU⟩ := tr_insB_split (tr_ky S) c B
            rw [hTU] at hAB
            have hr5 := h5 r' hr'
            rw [hrow, hAB, tr_putL_eq (by rw [← hAB]; exact hr5.nodup) hA hT hU] at hd
            rw [hAB]
            simp only [List.mem_append, List.mem_cons] at hd ⊢
            rcases hd with q | q | q | q
            · exact Or.inl q
            · exact Or.inr (Or.inl q)
            · exact absurd q e2
            · exact Or.inr (Or.inr q)
          rw [h6 r' hr' d hd']
          constructor
          · rintro ⟨x, q1, q2, q3, q4⟩
            exact ⟨x, q1, q2, (hkn x).mpr (Or.inl q3), q4⟩
          · rintro ⟨x, q1, q2, q3, q4⟩
            rcases (hkn x).mp q3 with q | q
            · exact ⟨x, q1, q2, q, q4⟩
            · rw [q, hi] at q2; cases q2
      · have hi : S.ins c = false := by simpa using hi
        have hrow : (tr_learn S r' c).row r' = S.row r' := by
          unfold tr_learn
          rw [if_neg (by rw [hi]; decide)]
          rfl
        have htk : (tr_learn S r' c).tk r' = va_up (S.tk r') (S.pa c - 1) true := by
          unfold tr_learn
          rw [if_neg (by rw [hi]; decide)]
          exact tr_vs
        rw [hrow] at hd
        rw [htk]
        have hp0 := g4 hi
        by_cases e2 : d = S.pa c - 1
        · rw [e2, tr_vs]
          constructor
          · intro _
            exact ⟨c, hc, hi, (hkn c).mpr (Or.inr rfl), by omega⟩
          · intro _; rfl
        · rw [tr_vn e2, h6 r' hr' d hd]
          constructor
          · rintro ⟨x, q1, q2, q3, q4⟩
            exact ⟨x, q1, q2, (hkn x).mpr (Or.inl q3), q4⟩
          · rintro ⟨x, q1, q2, q3, q4⟩
            rcases (hkn x).mp q3 with q | q
            · exact ⟨x, q1, q2, q, q4⟩
            · rw [q] at q4
              exact absurd (by omega) e2
    · have hrow : (tr_learn S r c).row r' = S.row r' := by
        unfold tr_learn
        split
        · exact tr_vn e
        · rfl
      have htk : (tr_learn S r c).tk r' = S.tk r' := by
        unfold tr_learn
        split
        · exact tr_vn e
        · exact tr_vn e
      rw [hrow] at hd
      rw [htk, h6 r' hr' d hd]
      constructor
      · rintro ⟨x, q1, q2, q3, q4⟩
        exact ⟨x, q1, q2, by rw [hkne r' e]; exact q3, q4⟩
      · rintro ⟨x, q1, q2, q3, q4⟩
        exact ⟨x, q1, q2, by rw [hkne r' e] at q3; exact q3, q4⟩
  · intro r' hr'
    rw [tr_learn_st]
    by_cases e : r' = r
    · subst e
      have hKr : ∀ d, tr_K (tr_learn S r' c) r' d ↔ tr_K S r' d ∨ (d = c ∧ S.ins c = true) := by
        intro d
        unfold tr_K
        rw [tr_learn_n, tr_learn_ins, hkn]
        constructor
        · rintro ⟨q1, q2, q3 | q3⟩
          · exact Or.inl ⟨q1, q2, q3⟩
          · rw [q3] at q2; exact Or.inr ⟨q3, q2⟩
        · rintro (⟨q1, q2, q3⟩ | ⟨q1, q2⟩)
          · exact ⟨q1, q2, Or.inl q3⟩
          · rw [q1]; exact ⟨hc, q2, Or.inr rfl⟩
      obtain ⟨k1, k2⟩ := h7 r' hr'
      by_cases hi : S.ins c = true
      · have hgr : (tr_learn S r' c).gr r' = max (S.gr r') (S.st c) := by
          unfold tr_learn
          rw [if_pos hi]
          exact tr_vs
        rw [hgr]
        constructor
        · intro d hd
          rcases (hKr d).mp hd with q | ⟨q, -⟩
          · have := k1 d q; omega
          · rw [q]; omega
        · by_cases hm : S.gr r' ≤ S.st c
          · exact Or.inr ⟨c, (hKr c).mpr (Or.inr ⟨rfl, hi⟩), by omega⟩
          · rcases k2 with q | ⟨d, q, q2⟩
            · omega
            · exact Or.inr ⟨d, (hKr d).mpr (Or.inl q), by omega⟩
      · have hgr : (tr_learn S r' c).gr r' = S.gr r' := by
          unfold tr_learn
          rw [if_neg hi]
          rfl
        rw [hgr]
        constructor
        · intro d hd
          rcases (hKr d).mp hd with q | ⟨-, q⟩
          · exact k1 d q
          · exact absurd q hi
        · rcases k2 with q | ⟨d, q, q2⟩
          · exact Or.inl q
          · exact Or.inr ⟨d, (hKr d).mpr (Or.inl q), q2⟩
    · have hgr : (tr_learn S r c).gr r' = S.gr r' := by
        unfold tr_learn
        split
        · exact tr_vn e
        · rfl
      obtain ⟨k1, k2⟩ := h7 r' hr'
      rw [hgr]
      constructor
      · intro d hd
        exact k1 d ((hKn r' e d).mpr hd)
      · rcases k2 with q | ⟨d, q, q2⟩
        · exact Or.inl q
        · exact Or.inr ⟨d, (hKn r' e d).mp q, q2⟩
/-! a new change -/
section TRN
variable {S : TS} {r v t : Nat} {b : Bool} {x : Int32}
theorem tr_new_og {c : Nat} (hc : c < S.n) : (tr_new S r b v x t).og c = S.og c := tr_vn (by omega)
theorem tr_new_ins {c : Nat} (hc : c < S.n) : (tr_new S r b v x t).ins c = S.ins c := tr_vn (by omega)
theorem tr_new_pa {c : Nat} (hc : c < S.n) : (tr_new S r b v x t).pa c = S.pa c := tr_vn (by omega)
theorem tr_new_le {c : Nat} (hc : c < S.n) : (tr_new S r b v x t).le c = S.le c := tr_vn (by omega)
theorem tr_new_st {c : Nat} (hc : c < S.n) : (tr_new S r b v x t).st c = S.st c := tr_vn (by omega)
theorem tr_new_ky {c : Nat} (hc : c < S.n) : tr_ky (tr_new S r b v x t) c = tr_ky S c := by unfold tr_ky; rw [tr_new_st hc, tr_new_og hc]
theorem tr_new_cnt (o : Nat) {m : Nat} (hm : m ≤ S.n) : tr_cnt (tr_new S r b v x t).og o m = tr_cnt S.og o m := tr_cnt_congr o m (fun c hc => tr_new_og (by omega))
theorem tr_new_num {c : Nat} (hc : c < S.n) : tr_num (tr_new S r b v x t) c = tr_num S c := by
  unfold tr_num
  rw [tr_new_cnt _ (by omega), tr_new_og hc]
theorem tr_new_kn {c : Nat} (hc : c < S.n) (r' : Nat) : tr_kn (tr_new S r b v x t) r' c = tr_kn S r' c := by
  unfold tr_kn
  rw [tr_new_num hc, tr_new_og hc]
  rfl
theorem tr_new_og_n : (tr_new S r b v x t).og S.n = r := tr_vs
theorem tr_new_ins_n : (tr_new S r b v x t).ins S.n = b := tr_vs
theorem tr_new_pa_n : (tr_new S r b v x t).pa S.n = v := tr_vs
theorem tr_new_le_n : (tr_new S r b v x t).le S.n = x := tr_vs
theorem tr_new_st_n : (tr_new S r b v x t).st S.n = t := tr_vs
theorem tr_new_num_n : tr_num (tr_new S r b v x t) S.n = tr_cnt S.og r S.n + 1 := by
  rw [tr_num_eq, tr_new_cnt _ (Nat.le_refl _), tr_new_og_n]
theorem tr_new_kn_n (h3 : tr_I3 S) (hr : r < 3) {r' : Nat} (hr' : r' < 3) : tr_kn (tr_new S r b v x t) r' S.n = false := by
  refine decide_eq_false ?_
  rw [tr_new_num_n, tr_new_og_n]
  have := h3 r' hr' r hr
  show ¬ _ ≤ S.kv r' r
  omega
theorem tr_new_K (h3 : tr_I3 S) (hr : r < 3) {r' : Nat} (hr' : r' < 3) (c : Nat) : tr_K (tr_new S r b v x t) r' c ↔ tr_K S r' c := by
  constructor
  · rintro ⟨q1, q2, q3⟩
    have q1 : c < S.n + 1 := q1
    by_cases e : c = S.n
    · rw [e, tr_new_kn_n h3 hr hr'] at q3; cases q3
    · have hc : c < S.n := by omega
      rw [tr_new_ins hc] at q2
      rw [tr_new_kn hc] at q3
      exact ⟨hc, q2, q3⟩
  · rintro ⟨hc, q2, q3⟩
    exact ⟨show c < S.n + 1 by omega, by rw [tr_new_ins hc]; exact q2, by rw [tr_new_kn hc]; exact q3⟩
theorem tr_I_new (h : tr_Inv S) (hr : r < 3) (hn : S.n < 48) (hv : b = false → v ≠ 0) (hva : ∀ a, v = a + 1 → a ∈ S.row r) (ht : b = true → t = S.gr r + 1) : tr_I (tr_new S r b v x t) := by
  obtain ⟨h, hown⟩ := h
  have hgr := h.gr_le hr
  have hmem := fun a => h.mem hr (c := a)
  obtain ⟨h1, h2, h3, h4, h5, h6, h7⟩ := h
  have two : ∀ c, c < S.n + 1 → c < S.n ∨ c = S.n := fun c hc => by omega
  have hdel : ∀ r', r' < 3 → ∀ c, (∃ d, d < (tr_new S r b v x t).n ∧ (tr_new S r b v x t).ins d = false ∧ tr_kn (tr_new S r b v x t) r' d = true ∧ (tr_new S r b v x t).pa d = c + 1) ↔ ∃ d, d < S.n ∧ S.ins d = false ∧ tr_kn S r' d = true ∧ S.pa d = c + 1 := by
    intro r' hr' c
    constructor
    · rintro ⟨d, q1, q2, q3, q4⟩
      rcases two d q1 with hd | hd
      · rw [tr_new_ins hd] at q2
        rw [tr_new_kn hd] at q3
        rw [tr_new_pa hd] at q4
        exact ⟨d, hd, q2, q3, q4⟩
      · rw [hd, tr_new_kn_n h3 hr hr'] at q3; cases q3
    · rintro ⟨d, hd, q2, q3, q4⟩
      exact ⟨d, show d < S.n + 1 by omega, by rw [tr_new_ins hd]; exact q2, by rw [tr_new_kn hd]; exact q3, by rw [tr_new_pa hd]; exact q4⟩
  refine ⟨⟨show S.n + 1 ≤ 48 by omega, fun c hc => ?_⟩, ?_, ?_, ?_, ?_, ?_, ?_⟩
  · rcases two c hc with hc | hc
    · obtain ⟨g1, g2, g3, g4, g5⟩ := h1.2 c hc
      rw [tr_new_og hc, tr_new_pa hc, tr_new_ins hc, tr_new_st hc]
      refine ⟨g1, g2, g3, g4, fun a ha => ?_⟩
      have ha2 : a < S.n := by omega
      rw [tr_new_ins ha2, tr_new_st ha2]
      exact g5 a ha
    · subst hc
      rw [tr_new_og_n, tr_new_pa_n, tr_new_ins_n, tr_new_st_n]
      have hvn : v ≤ S.n := by
        cases hv0 : v with
        | zero => omega
        | succ a => have := ((hmem a).mp (hva a hv0)).1; omega
      refine ⟨hr, hvn, fun hb => by have := ht hb; omega, hv, fun a ha => ?_⟩
      have hK := (hmem a).mp (hva a ha)
      rw [tr_new_ins hK.1, tr_new_st hK.1]
      refine ⟨hK.2.1, fun hb => ?_⟩
      have := (h7 r hr).1 a hK
      have := ht hb
      omega
  · have key : ∀ d, d < S.n → S.ins d = true → b = true → ¬ tr_ky (tr_new S r b v x t) S.n = tr_ky S d := by
      intro d hd hi hb e
      have ho := (h1.2 d hd).1
      have e2 : 3 * t + r = 3 * S.st d + S.og d := by
        unfold tr_ky at e
        rw [tr_new_st_n, tr_new_og_n] at e
        exact e
      have eo : S.og d = r := by omega
      have hK : tr_K S r d := by
        refine ⟨hd, hi, ?_⟩
        rw [tr_kn_iff, eo, hown r hr, ← eo]
        exact tr_num_le S hd
      have := (h7 r hr).1 d hK
      have := ht hb
      omega
    intro c d hc hd ic id e
    rcases two c hc with hc | hc <;> rcases two d hd with hd | hd
    · rw [tr_new_ins hc] at ic
      rw [tr_new_ins hd] at id
      rw [tr_new_ky hc, tr_new_ky hd] at e
      exact h2 c d hc hd ic id e
    · subst hd
      rw [tr_new_ins hc] at ic
      rw [tr_new_ins_n] at id
      rw [tr_new_ky hc] at e
      exact absurd e.symm (key c hc ic id)
    · subst hc
      rw [tr_new_ins hd] at id
      rw [tr_new_ins_n] at ic
      rw [tr_new_ky hd] at e
      exact absurd e (key d hd id ic)
    · omega
  · intro r' hr' o ho
    show S.kv r' o ≤ tr_cnt (tr_new S r b v x t).og o (S.n + 1)
    rw [tr_cnt_s, tr_new_cnt _ (Nat.le_refl _)]
    have := h3 r' hr' o ho
    omega
  · intro r' hr' c hc hkc a ha
    rcases two c hc with hc | hc
    · rw [tr_new_kn hc] at hkc
      rw [tr_new_pa hc] at ha
      have ha2 : a < S.n := by have := (h1.2 c hc).2.1; omega
      rw [tr_new_kn ha2]
      exact h4 r' hr' c hc hkc a ha
    · rw [hc, tr_new_kn_n h3 hr hr'] at hkc; cases hkc
  · intro r' hr'
    refine ((h5 r' hr').congrP (n := S.n) (fun c hc => hc.1) (fun c hc => ⟨(tr_new_pa hc).symm, (tr_new_ky hc).symm⟩)).congrK (fun c => (tr_new_K h3 hr hr' c).symm)
  · intro r' hr' c hc
    rw [hdel r' hr' c]
    exact h6 r' hr' c hc
  · intro r' hr'
    obtain ⟨k1, k2⟩ := h7 r' hr'
    constructor
    · intro c hc
      have hK := (tr_new_K h3 hr hr' c).mp hc
      rw [tr_new_st hK.1]
      exact k1 c hK
    · rcases k2 with q | ⟨c, q, q2⟩
      · exact Or.inl q
      · exact Or.inr ⟨c, (tr_new_K h3 hr hr' c).mpr q, by rw [tr_new_st q.1]; exact q2⟩
end TRN
/-- the new change is the next one at its own replica -/
theorem tr_new_next {S : TS} {r v t : Nat} {b : Bool} {x : Int32} (hown : tr_own S) (hr : r < 3) : tr_num (tr_new S r b v x t) S.n = (tr_new S r b v x t).kv r ((tr_new S r b v x t).og S.n) + 1 := by
  rw [tr_new_num_n, tr_new_og_n]
  show _ = S.kv r r + 1
  rw [hown r hr]
theorem tr_make_own {S : TS} {r v t : Nat} {b : Bool} {x : Int32} (hown : tr_own S) (hr : r < 3) : tr_own (tr_learn (tr_new S r b v x t) r S.n) := by
  intro r' hr'
  rw [tr_learn_kv, tr_learn_og, tr_learn_n]
  show _ = tr_cnt (tr_new S r b v x t).og r' (S.n + 1)
  rw [tr_cnt_s, tr_new_cnt _ (Nat.le_refl _), tr_new_og_n]
  by_cases e : r' = r
  · subst e
    rw [tr_vs, tr_vs, tr_new_num_n, if_pos rfl]
  · rw [tr_vn e, if_neg (fun h => e h.symm)]
    exact hown r' hr'
/-- learning what another made -/
theorem tr_learn_own {S : TS} {r c : Nat} (hI : tr_Inv S) (hr : r < 3) (hc : c < S.n) (hk : tr_num S c = S.kv r (S.og c) + 1) : tr_own (tr_learn S r c) := by
  intro r' hr'
  rw [tr_learn_kv, tr_learn_og, tr_learn_n]
  by_cases e : r' = r
  · subst e
    rw [tr_vs, tr_vn]
    · exact hI.2 r' hr'
    · intro e2
      have h1 := tr_num_le S hc
      have h2 := hI.2 r' hr'
      rw [← e2] at hk h1
      omega
  · rw [tr_vn e]
    exact hI.2 r' hr'
theorem tr_Inv_learn {S : TS} {r c : Nat} (h : tr_Inv S) (hr : r < 3) (hc : c < S.n) (hk : tr_num S c = S.kv r (S.og c) + 1) (hcl : ∀ a, S.pa c = a + 1 → tr_kn S r a = true) : tr_Inv (tr_learn S r c) := ⟨tr_I_learn h.1 hr hc hk hcl, tr_learn_own h hr hc hk⟩
end
section
/-! PURE: what each public method answers and makes of the abstract state -/
def tr_rN (x : Int32) : Nat := x.toNatClampNeg
theorem tr_rN_nI {n : Nat} (h : n < 2 ^ 31) : tr_rN (nI n) = n := nI_clamp h
theorem tr_okf {x : Int32} (h : tr_ok x = false) : ¬ tr_ok x = true := by rw [h]; decide
/-! insert -/
def tr_insV (S : TS) (r q : Nat) : Nat := if q = 0 then 0 else (tr_tx S r).getD (q - 1) 0 + 1
def tr_insN (S : TS) (r q : Nat) (x : Int32) : TS := tr_new S r true (tr_insV S r q) x (S.gr r + 1)
def tr_insS (S : TS) (r q : Nat) (x : Int32) : TS := tr_learn (tr_insN S r q x) r S.n
def tr_insA (S : TS) (x y z : Int32) : Int32 × TS :=
  if tr_ok x = true ∧ ¬ y < 0 ∧ ¬ nI (tr_tx S (tr_rN x)).length < y ∧ S.n < 48 then (nI (tr_tx (tr_insS S (tr_rN x) (tr_rN y) z) (tr_rN x)).length, tr_insS S (tr_rN x) (tr_rN y) z) else (iI 0, S)
theorem tr_insA_1 {S : TS} {x y z : Int32} (h : tr_ok x = false) : tr_insA S x y z = (iI 0, S) := if_neg (fun q => tr_okf h q.1)
theorem tr_insA_2 {S : TS} {x y z : Int32} (h : y < 0) : tr_insA S x y z = (iI 0, S) := if_neg (fun q => q.2.1 h)
theorem tr_insA_3 {S : TS} {r q : Nat} {z : Int32} (hr : r < 3) (hq : q < 2 ^ 31) (h : (tr_tx S r).length < q) : tr_insA S (nI r) (nI q) z = (iI 0, S) := if_neg (fun a => a.2.2.1 (by rw [tr_rN_nI (by omega)]; exact nI_lt h hq))
theorem tr_insA_4 {S : TS} {x y z : Int32} (h : 48 ≤ S.n) : tr_insA S x y z = (iI 0, S) := if_neg (fun q => by have := q.2.2.2; omega)
theorem tr_insA_5 {S : TS} {r q : Nat} {z : Int32} (hr : r < 3) (hq : q < 2 ^ 31) (h : q ≤ (tr_tx S r).length) (hl : (tr_tx S r).length < 2 ^ 31) (hn : S.n < 48) : tr_insA S (nI r) (nI q) z = (nI (tr_tx (tr_insS S r q z) r).length, tr_insS S r q z) := by
  have hr2 : tr_rN (nI r) = r := tr_rN_nI (by omega)
  have hq2 : tr_rN (nI q) = q := tr_rN_nI hq
  unfold tr_insA
  rw [hr2, hq2, if_pos ⟨tr_ok_nI hr, nI_pos hq, nI_nlt h hl, hn⟩]
/-! delete -/
def tr_delN (S : TS) (r q : Nat) : TS := tr_new S r false ((tr_tx S r).getD q 0 + 1) 0 (S.gr r + 1)
def tr_delS (S : TS) (r q : Nat) : TS := tr_learn (tr_delN S r q) r S.n
def tr_delA (S : TS) (x y : Int32) : Int32 × TS :=
  if tr_ok x = true ∧ ¬ y < 0 ∧ ¬ nI (tr_tx S (tr_rN x)).length ≤ y ∧ S.n < 48 then (nI (tr_tx (tr_delS S (tr_rN x) (tr_rN y)) (tr_rN x)).length, tr_delS S (tr_rN x) (tr_rN y)) else (iI 0, S)
theorem tr_delA_1 {S : TS} {x y : Int32} (h : tr_ok x = false) : tr_delA S x y = (iI 0, S) := if_neg (fun q => tr_okf h q.1)
theorem tr_delA_2 {S : TS} {x y : Int32} (h : y < 0) : tr_delA S x y = (iI 0, S) := if_neg (fun q => q.2.1 h)
theorem tr_delA_3 {S : TS} {r q : Nat} (hr : r < 3) (hq : q < 2 ^ 31) (h : (tr_tx S r).length ≤ q) : tr_delA S (nI r) (nI q) = (iI 0, S) := if_neg (fun a => a.2.2.1 (by rw [tr_rN_nI (by omega)]; exact nI_le h hq))
theorem tr_delA_4 {S : TS} {x y : Int32} (h : 48 ≤ S.n) : tr_delA S x y = (iI 0, S) := if_neg (fun q => by have := q.2.2.2; omega)
theorem tr_delA_5 {S : TS} {r q : Nat} (hr : r < 3) (hq : q < 2 ^ 31) (h : q < (tr_tx S r).length) (hl : (tr_tx S r).length < 2 ^ 31) (hn : S.n < 48) : tr_delA S (nI r) (nI q) = (nI (tr_tx (tr_delS S r q) r).length, tr_delS S r q) := by
  have hr2 : tr_rN (nI r) = r := tr_rN_nI (by omega)
  have hq2 : tr_rN (nI q) = q := tr_rN_nI hq
  unfold tr_delA
  rw [hr2, hq2, if_pos ⟨tr_ok_nI hr, nI_pos hq, nI_ge h hl, hn⟩]
/-! both make a change that its replica learns -/
theorem tr_getD_mem {L : List Nat} {k : Nat} (h : k < L.length) : L.getD k 0 ∈ L := by
  rw [List.getD_eq_getElem?_getD, List.getElem?_eq_getElem h, Option.getD_some]
  exact List.getElem_mem h
theorem tr_getD_some {L : List Nat} {k : Nat} (h : k < L.length) : L[k]? = some (L.getD k 0) := by
  rw [List.getD_eq_getElem?_getD, List.getElem?_eq_getElem h, Option.getD_some]
theorem tr_tx_row {S : TS} {r c : Nat} (h : c ∈ tr_tx S r) : c ∈ S.row r := (List.mem_filter.mp h).1
theorem tr_insV_mem {S : TS} {r q : Nat} (hq : q ≤ (tr_tx S r).length) : ∀ a, tr_insV S r q = a + 1 → a ∈ S.row r := by
  intro a e
  unfold tr_insV at e
  by_cases h0 : q = 0
  · rw [if_pos h0] at e; omega
  · rw [if_neg h0] at e
    have e2 : (tr_tx S r).getD (q - 1) 0 = a := by omega
    rw [← e2]
    exact tr_tx_row (tr_getD_mem (by omega))
theorem tr_delV_mem {S : TS} {r q : Nat} (hq : q < (tr_tx S r).length) : ∀ a, (tr_tx S r).getD q 0 + 1 = a + 1 → a ∈ S.row r := by
  intro a e
  have e2 : (tr_tx S r).getD q 0 = a := by omega
  rw [← e2]
  exact tr_tx_row (tr_getD_mem hq)
theorem tr_new_cl {S : TS} {r v t : Nat} {b : Bool} {x : Int32} (hI : tr_I S) (hr : r < 3) (hva : ∀ a, v = a + 1 → a ∈ S.row r) : ∀ a, (tr_new S r b v x t).pa S.n = a + 1 → tr_kn (tr_new S r b v x t) r a = true := by
  intro a e
  rw [tr_new_pa_n] at e
  have hK := (hI.mem hr).mp (hva a e)
  rw [tr_new_kn hK.1]
  exact hK.2.2
theorem tr_Inv_make {S : TS} {r v t : Nat} {b : Bool} {x : Int32} (h : tr_Inv S) (hr : r < 3) (hn : S.n < 48) (hv : b = false → v ≠ 0) (hva : ∀ a, v = a + 1 → a ∈ S.row r) (ht : b = true → t = S.gr r + 1) : tr_Inv (tr_learn (tr_new S r b v x t) r S.n) :=
  ⟨tr_I_learn (tr_I_new h hr hn hv hva ht) hr (Nat.lt_succ_self _) (tr_new_next h.2 hr) (tr_new_cl h.1 hr hva), tr_make_own h.2 hr⟩
theorem tr_insA_inv {S : TS} (h : tr_Inv S) (x y z : Int32) : tr_Inv (tr_insA S x y z).2 := by
  unfold tr_insA
  split
  · next hc =>
    obtain ⟨h1, h2, h3, h4⟩ := hc
    obtain ⟨r, hr, rfl⟩ := tr_ok_n h1
    obtain ⟨q, hq, rfl⟩ := nI_of h2
    rw [tr_rN_nI (by omega)] at h3 ⊢
    rw [tr_rN_nI hq]
    have hq2 : q ≤ (tr_tx S r).length := Nat.not_lt.mp (fun hlt => h3 (nI_lt hlt hq))
    exact tr_Inv_make h hr h4 (fun e => by cases e) (tr_insV_mem hq2) (fun _ => rfl)
  · exact h
theorem tr_delA_inv {S : TS} (h : tr_Inv S) (x y : Int32) : tr_Inv (tr_delA S x y).2 := by
  unfold tr_delA
  split
  · next hc =>
    obtain ⟨h1, h2, h3, h4⟩ := hc
    obtain ⟨r, hr, rfl⟩ := tr_ok_n h1
    obtain ⟨q, hq, rfl⟩ := nI_of h2
    rw [tr_rN_nI (by omega)] at h3 ⊢
    rw [tr_rN_nI hq]
    have hq2 : q < (tr_tx S r).length := Nat.not_le.mp (fun hle => h3 (nI_le hle hq))
    exact tr_Inv_make h hr h4 (fun _ => by omega) (tr_delV_mem hq2) (fun e => by cases e)
  · exact h
/-! deliver -/
def tr_fnd (S : TS) (f t : Nat) : Option Nat := (List.range S.n).find? (fun c => decide (S.og c = f ∧ tr_num S c = S.kv t f + 1))
theorem tr_fnd_some {S : TS} {f t c : Nat} (hc : c < S.n) (ho : S.og c = f) (hk : tr_num S c = S.kv t f + 1) : tr_fnd S f t = some c := by
  unfold tr_fnd
  cases h : (List.range S.n).find? (fun c => decide (S.og c = f ∧ tr_num S c = S.kv t f + 1)) with
  | none =>
    have := List.find?_eq_none.mp h c (List.mem_range.mpr hc)
    exact absurd (decide_eq_true (And.intro ho hk)) this
  | some d =>
    have h1 := List.find?_some h
    have h2 := of_decide_eq_true h1
    rw [tr_num_inj S (c := d) (d := c) (by rw [h2.1, ho]) (by rw [h2.2, hk])]
theorem tr_fnd_none {S : TS} {f t : Nat} (h : ∀ c, c < S.n → S.og c = f → tr_num S c ≠ S.kv t f + 1) : tr_fnd S f t = none := by
  unfold tr_fnd
  refine List.find?_eq_none.mpr (fun c hc => ?_)
  intro q
  have h2 := of_decide_eq_true q
  exact h c (List.mem_range.mp hc) h2.1 h2.2
def tr_dlvS (S : TS) (f t : Nat) : Int32 × TS := match tr_fnd S f t with
  | none => (iI 0, S)
  | some c => if S.pa c = 0 ∨ tr_kn S t (S.pa c - 1) = true then (nI 0, tr_learn S t c) else (-2, S)
def tr_dlvA (S : TS) (x y : Int32) : Int32 × TS := if tr_ok x = true ∧ tr_ok y = true then tr_dlvS S (tr_rN x) (tr_rN y) else (iI 0, S)
theorem tr_dlvA_1 {S : TS} {x y : Int32} (h : tr_ok x = false) : tr_dlvA S x y = (iI 0, S) := if_neg (fun q => tr_okf h q.1)
theorem tr_dlvA_2 {S : TS} {x y : Int32} (h : tr_ok y = false) : tr_dlvA S x y = (iI 0, S) := if_neg (fun q => tr_okf h q.2)
theorem tr_dlvA_ok {S : TS} {f t : Nat} (hf : f < 3) (ht : t < 3) : tr_dlvA S (nI f) (nI t) = tr_dlvS S f t := by
  unfold tr_dlvA
  rw [if_pos ⟨tr_ok_nI hf, tr_ok_nI ht⟩, tr_rN_nI (by omega), tr_rN_nI (by omega)]
theorem tr_dlvA_3 {S : TS} {f t : Nat} (hf : f < 3) (ht : t < 3) (h : ∀ c, c < S.n → S.og c = f → tr_num S c ≠ S.kv t f + 1) : tr_dlvA S (nI f) (nI t) = (iI 0, S) := by
  rw [tr_dlvA_ok hf ht]
  unfold tr_dlvS
  rw [tr_fnd_none h]
theorem tr_dlvA_4 {S : TS} {f t c : Nat} (hf : f < 3) (ht : t < 3) (hc : c < S.n) (ho : S.og c = f) (hk : tr_num S c = S.kv t f + 1) (h : S.pa c = 0 ∨ tr_kn S t (S.pa c - 1) = true) : tr_dlvA S (nI f) (nI t) = (nI 0, tr_learn S t c) := by
  rw [tr_dlvA_ok hf ht]
  unfold tr_dlvS
  rw [tr_fnd_some hc ho hk]
  exact if_pos h
theorem tr_dlvA_5 {S : TS} {f t c a : Nat} (hf : f < 3) (ht : t < 3) (hc : c < S.n) (ho : S.og c = f) (hk : tr_num S c = S.kv t f + 1) (e : S.pa c = a + 1) (h : tr_kn S t a = false) : tr_dlvA S (nI f) (nI t) = (-2, S) := by
  rw [tr_dlvA_ok hf ht]
  unfold tr_dlvS
  rw [tr_fnd_some hc ho hk]
  refine if_neg (fun q => ?_)
  rcases q with q | q
  · omega
  · rw [e, Nat.add_sub_cancel, h] at q; cases q
theorem tr_dlvS_cl {S : TS} {t c : Nat} (h : S.pa c = 0 ∨ tr_kn S t (S.pa c - 1) = true) : ∀ a, S.pa c = a + 1 → tr_kn S t a = true := by
  intro a e
  rcases h with h | h
  · omega
  · rw [e, Nat.add_sub_cancel] at h; exact h
theorem tr_dlvA_inv {S : TS} (hI : tr_Inv S) (x y : Int32) : tr_Inv (tr_dlvA S x y).2 := by
  unfold tr_dlvA
  split
  · next hc =>
    obtain ⟨t, ht, rfl⟩ := tr_ok_n hc.2
    rw [tr_rN_nI (n := t) (by omega)]
    unfold tr_dlvS
    cases hf : tr_fnd S (tr_rN x) t with
    | none => exact hI
    | some c =>
      have hf2 : (List.range S.n).find? (fun c => decide (S.og c = tr_rN x ∧ tr_num S c = S.kv t (tr_rN x) + 1)) = some c := hf
      have h0 := List.find?_some hf2
      have h1 := of_decide_eq_true h0
      have h2 := List.mem_range.mp (List.mem_of_find?_eq_some hf2)
      show tr_Inv (if S.pa c = 0 ∨ tr_kn S t (S.pa c - 1) = true then (nI 0, tr_learn S t c) else ((-2 : Int32), S)).2
      split
      · next h => exact tr_Inv_learn hI ht h2 (by rw [h1.1]; exact h1.2) (tr_dlvS_cl h)
      · exact hI
  · exact hI
/-! sync -/
def tr_syn (S : TS) (f t : Nat) : Nat → TS
  | 0 => S
  | i + 1 => if tr_kn (tr_syn S f t i) f i = true ∧ tr_kn (tr_syn S f t i) t i = false then tr_learn (tr_syn S f t i) t i else tr_syn S f t i
def tr_synA (S : TS) (x y : Int32) : Int32 × TS := if tr_ok x = true ∧ tr_ok y = true then (nI 0, tr_syn S (tr_rN x) (tr_rN y) S.n) else (iI 0, S)
theorem tr_synA_1 {S : TS} {x y : Int32} (h : tr_ok x = false) : tr_synA S x y = (iI 0, S) := if_neg (fun q => tr_okf h q.1)
theorem tr_synA_2 {S : TS} {x y : Int32} (h : tr_ok y = false) : tr_synA S x y = (iI 0, S) := if_neg (fun q => tr_okf h q.2)
theorem tr_synA_3 {S : TS} {f t : Nat} (hf : f < 3) (ht : t < 3) : tr_synA S (nI f) (nI t) = (nI 0, tr_syn S f t S.n) := by
  unfold tr_synA
  rw [if_pos ⟨tr_ok_nI hf, tr_ok_nI ht⟩, tr_rN_nI (by omega), tr_rN_nI (by omega)]
/-- what stays, and what the replica t knows behind i changes -/
def tr_synI (S : TS) (f t i : Nat) (S' : TS) : Prop := tr_Inv S' ∧ S'.n = S.n ∧ S'.og = S.og ∧ S'.ins = S.ins ∧ S'.pa = S.pa ∧ S'.le = S.le ∧ S'.st = S.st ∧ (∀ r', r' ≠ t → S'.kv r' = S.kv r') ∧ (∀ c, tr_kn S' t c = true ↔ tr_kn S t c = true ∨ (c < i ∧ tr_kn S f c = true))
theorem tr_synI_0 {S : TS} {f t : Nat} (h : tr_Inv S) : tr_synI S f t 0 S := ⟨h, rfl, rfl, rfl, rfl, rfl, rfl, fun _ _ => rfl, fun c => ⟨Or.inl, fun q => q.elim id (fun q => absurd q.1 (by omega))⟩⟩
theorem tr_synI_num {S S' : TS} {f t i : Nat} (h : tr_synI S f t i S') (c : Nat) : tr_num S' c = tr_num S c := by
  unfold tr_num
  rw [h.2.2.1]
theorem tr_synI_kn {S S' : TS} {f t i r : Nat} (h : tr_synI S f t i S') (hr : r ≠ t) (c : Nat) : tr_kn S' r c = tr_kn S r c := by
  unfold tr_kn
  rw [tr_synI_num h, h.2.2.1, h.2.2.2.2.2.2.2.1 r hr]
/-- the step's conditions, when the change is learnt -/
theorem tr_synI_go {S S' : TS} {f t i : Nat} (h : tr_synI S f t i S') (hI : tr_Inv S) (hf : f < 3) (ht : t < 3) (hi : i < S.n) (hkf : tr_kn S' f i = true) (hkt : tr_kn S' t i = false) : f ≠ t ∧ tr_kn S f i = true ∧ tr_num S' i = S'.kv t (S'.og i) + 1 ∧ (∀ a, S'.pa i = a + 1 → tr_kn S' t a = true) := by
  have hft : f ≠ t := by
    intro e
    rw [e, hkt] at hkf
    cases hkf
  have hkf2 : tr_kn S f i = true := by rw [← tr_synI_kn h hft]; exact hkf
  obtain ⟨k1, k2, k3, k4, k5, k6, k7, k8, k9⟩ := h
  refine ⟨hft, hkf2, ?_, ?_⟩
  · have h1 : S'.kv t (S'.og i) < tr_num S' i := by
      have := of_decide_eq_false hkt
      omega
    rcases Nat.lt_or_ge (S'.kv t (S'.og i) + 1) (tr_num S' i) with q | q
    · exfalso
      obtain ⟨d, g1, g2, g3⟩ := tr_num_ex S' (S'.og i) (i + 1) (S'.kv t (S'.og i) + 1) (by omega) (by show _ ≤ tr_num S' i; omega)
      have hdi : d ≠ i := by
        intro e
        rw [e] at g3
        omega
      have hnd : tr_num S' d = tr_num S d := by unfold tr_num; rw [k3]
      have hni : tr_num S' i = tr_num S i := by unfold tr_num; rw [k3]
      have hkd : tr_kn S f d = true := by
        rw [tr_kn_iff] at hkf2 ⊢
        rw [k3] at g2
        rw [g2]
        omega
      have := (k9 d).mpr (Or.inr ⟨by omega, hkd⟩)
      rw [tr_kn_iff, g2] at this
      omega
    · omega
  · intro a ha
    rw [k5] at ha
    have hai := (hI.1.1.2 i hi).2.1
    exact (k9 a).mpr (Or.inr ⟨by omega, hI.1.2.2.2.1 f hf i hi hkf2 a ha⟩)
theorem tr_synI_s {S : TS} {f t : Nat} (hI : tr_Inv S) (hf : f < 3) (ht : t < 3) {i : Nat} (hi : i < S.n) (h : tr_synI S f t i (tr_syn S f t i)) : tr_synI S f t (i + 1) (tr_syn S f t (i + 1)) := by
  show tr_synI S f t (i + 1) (if tr_kn (tr_syn S f t i) f i = true ∧ tr_kn (tr_syn S f t i) t i = false then tr_learn (tr_syn S f t i) t i else tr_syn S f t i)
  by_cases hc : tr_kn (tr_syn S f t i) f i = true ∧ tr_kn (tr_syn S f t i) t i = false
  · rw [if_pos hc]
    obtain ⟨hft, hkf2, hnum, hcl⟩ := tr_synI_go h hI hf ht hi hc.1 hc.2
    obtain ⟨k1, k2, k3, k4, k5, k6, k7, k8, k9⟩ := h
    have hkn := tr_learn_kn hnum
    refine ⟨tr_Inv_learn k1 ht (by rw [k2]; exact hi) hnum hcl, by rw [tr_learn_n, k2], by rw [tr_learn_og, k3], by rw [tr_learn_ins, k4], by rw [tr_learn_pa, k5], by rw [tr_learn_le, k6], by rw [tr_learn_st, k7], fun r' hr' => by rw [tr_learn_kv, tr_vn hr', k8 r' hr'], fun c => ?_⟩
    rw [hkn, k9]
    constructor
    · rintro ((q | ⟨q1, q2⟩) | q)
      · exact Or.inl q
      · exact Or.inr ⟨by omega, q2⟩
      · rw [q]; exact Or.inr ⟨by omega, hkf2⟩
    · rintro (q | ⟨q1, q2⟩)
      · exact Or.inl (Or.inl q)
      · by_cases e : c = i
        · exact Or.inr e
        · exact Or.inl (Or.inr ⟨by omega, q2⟩)
  · rw [if_neg hc]
    have hkn := tr_synI_kn h (r := f)
    obtain ⟨k1, k2, k3, k4, k5, k6, k7, k8, k9⟩ := h
    refine ⟨k1, k2, k3, k4, k5, k6, k7, k8, fun c => ?_⟩
    rw [k9]
    constructor
    · rintro (q | ⟨q1, q2⟩)
      · exact Or.inl q
      · exact Or.inr ⟨by omega, q2⟩
    · rintro (q | ⟨q1, q2⟩)
      · exact Or.inl q
      · by_cases e : c = i
        · subst e
          by_cases hft : f = t
          · rw [hft] at q2; exact Or.inl q2
          · have h1 : tr_kn (tr_syn S f t c) f c = true := by rw [hkn hft]; exact q2
            have h2 : tr_kn (tr_syn S f t c) t c = true := by
              cases hb : tr_kn (tr_syn S f t c) t c with
              | true => rfl
              | false => exact absurd ⟨h1, hb⟩ hc
            exact (k9 c).mp h2
        · exact Or.inr ⟨by omega, q2⟩
theorem tr_syn_all {S : TS} {f t : Nat} (hI : tr_Inv S) (hf : f < 3) (ht : t < 3) : ∀ i, i ≤ S.n → tr_synI S f t i (tr_syn S f t i) := by
  intro i
  induction i with
  | zero => intro _; exact tr_synI_0 hI
  | succ i ih => intro h; exact tr_synI_s hI hf ht (by omega) (ih (by omega))
theorem tr_synA_inv {S : TS} (hI : tr_Inv S) (x y : Int32) : tr_Inv (tr_synA S x y).2 := by
  unfold tr_synA
  split
  · next hc =>
    obtain ⟨f, hf, rfl⟩ := tr_ok_n hc.1
    obtain ⟨t, ht, rfl⟩ := tr_ok_n hc.2
    rw [tr_rN_nI (n := f) (by omega), tr_rN_nI (n := t) (by omega)]
    exact (tr_syn_all hI hf ht S.n (Nat.le_refl _)).1
  · exact hI
/-! the answers of the others -/
def tr_lenA (S : TS) (x : Int32) : Int32 := if tr_ok x = true then nI (tr_tx S (tr_rN x)).length else iI 0
theorem tr_lenA_1 {S : TS} {x : Int32} (h : tr_ok x = false) : tr_lenA S x = iI 0 := if_neg (tr_okf h)
theorem tr_lenA_2 {S : TS} {r : Nat} (hr : r < 3) : tr_lenA S (nI r) = nI (tr_tx S r).length := by
  unfold tr_lenA
  rw [if_pos (tr_ok_nI hr), tr_rN_nI (by omega)]
def tr_letA (S : TS) (x y : Int32) : Int32 := if tr_ok x = true ∧ ¬ y < 0 ∧ ¬ nI (tr_tx S (tr_rN x)).length ≤ y then S.le ((tr_tx S (tr_rN x)).getD (tr_rN y) 0) else nI 0
theorem tr_letA_1 {S : TS} {x y : Int32} (h : tr_ok x = false) : tr_letA S x y = nI 0 := if_neg (fun q => tr_okf h q.1)
theorem tr_letA_2 {S : TS} {x y : Int32} (h : y < 0) : tr_letA S x y = nI 0 := if_neg (fun q => q.2.1 h)
theorem tr_letA_3 {S : TS} {r q : Nat} (hr : r < 3) (hq : q < 2 ^ 31) (h : (tr_tx S r).length ≤ q) : tr_letA S (nI r) (nI q) = nI 0 := if_neg (fun a => a.2.2 (by rw [tr_rN_nI (by omega)]; exact nI_le h hq))
theorem tr_letA_4 {S : TS} {r q : Nat} (hr : r < 3) (hq : q < 2 ^ 31) (h : q < (tr_tx S r).length) (hl : (tr_tx S r).length < 2 ^ 31) : tr_letA S (nI r) (nI q) = S.le ((tr_tx S r).getD q 0) := by
  unfold tr_letA
  rw [tr_rN_nI (n := r) (by omega), tr_rN_nI hq, if_pos ⟨tr_ok_nI hr, nI_pos hq, nI_ge h hl⟩]
def tr_rowA (S : TS) (x : Int32) : Int32 := if tr_ok x = true then nI (S.row (tr_rN x)).length else iI 0
theorem tr_rowA_1 {S : TS} {x : Int32} (h : tr_ok x = false) : tr_rowA S x = iI 0 := if_neg (tr_okf h)
theorem tr_rowA_2 {S : TS} {r : Nat} (hr : r < 3) : tr_rowA S (nI r) = nI (S.row r).length := by
  unfold tr_rowA
  rw [if_pos (tr_ok_nI hr), tr_rN_nI (by omega)]
def tr_knoA (S : TS) (x y : Int32) : Int32 := if tr_ok x = true ∧ tr_ok y = true then nI (S.kv (tr_rN x) (tr_rN y)) else iI 0
theorem tr_knoA_1 {S : TS} {x y : Int32} (h : tr_ok x = false) : tr_knoA S x y = iI 0 := if_neg (fun q => tr_okf h q.1)
theorem tr_knoA_2 {S : TS} {x y : Int32} (h : tr_ok y = false) : tr_knoA S x y = iI 0 := if_neg (fun q => tr_okf h q.2)
theorem tr_knoA_3 {S : TS} {r o : Nat} (hr : r < 3) (ho : o < 3) : tr_knoA S (nI r) (nI o) = nI (S.kv r o) := by
  unfold tr_knoA
  rw [if_pos ⟨tr_ok_nI hr, tr_ok_nI ho⟩, tr_rN_nI (by omega), tr_rN_nI (by omega)]
def tr_aliA (S : TS) (x y : Int32) : Int32 := if tr_ok x = true ∧ tr_ok y = true then bI (decide ((tr_tx S (tr_rN x)).map S.le = (tr_tx S (tr_rN y)).map S.le)) else iI 0
theorem tr_aliA_1 {S : TS} {x y : Int32} (h : tr_ok x = false) : tr_aliA S x y = iI 0 := if_neg (fun q => tr_okf h q.1)
theorem tr_aliA_2 {S : TS} {x y : Int32} (h : tr_ok y = false) : tr_aliA S x y = iI 0 := if_neg (fun q => tr_okf h q.2)
theorem tr_aliA_3 {S : TS} {a b : Nat} (ha : a < 3) (hb : b < 3) : tr_aliA S (nI a) (nI b) = bI (decide ((tr_tx S a).map S.le = (tr_tx S b).map S.le)) := by
  unfold tr_aliA
  rw [if_pos ⟨tr_ok_nI ha, tr_ok_nI hb⟩, tr_rN_nI (by omega), tr_rN_nI (by omega)]
end
section
/-! X: the public methods (printed by gen/x_pub.py) -/
set_option maxRecDepth 100000
set_option maxHeartbeats 4000000 in
theorem tr_X_length (l : Launch) (D : va_G) (h : Nat → Nat) (cI cZ : ClassId) (S : TS) (u : XW) (hR : RepX S u) (hI : tr_Inv S) (x : Int32) : tr_MR l yX0_length cX0_length 2 (some .int) 1 20 D tr_cl (tr_ty cI cZ) (wX h cI cZ) [.ref (h 0), .int x] u (fun z => z = tr_lenA S x) := by
  refine tr_enterI RX0 rfl (by decide) (Nat.le_of_ble_eq_true rfl) ?_
  intro p e s m below meth c0 A ls S0 hret hlk hK hP hD hS hA hl
  have hx := S0.1
  have hb := S0.2.1
  have hl : lv_has ls 2 [(0, .ref (h 0)), (1, .int x)] := hl
  refine lv_iload_n hx hb dX0_length_0 rfl (lv_at hl 1 rfl) ?_
  refine tr_callS (As := [.int x]) (rest := []) S0 (tr_X_isReplica l x) 1 (lw_S q82 q83 q17 q84) (by decide +kernel) ⟨Nat.le_of_ble_eq_true rfl, Nat.le_of_ble_eq_true rfl⟩ hP hS hA rfl hl.1 rfl (Nat.le_of_ble_eq_true rfl) dX0_length_1 ⟨Nat.le_of_ble_eq_true rfl, Nat.le_of_ble_eq_true rfl⟩ (fun r1 hw1 H locs hP hS => ?_)
  subst hw1
  refine tr_feqB (tgt := 16) hx hb dX0_length_4 (by decide) (fun c4 => ?_) (fun c4 => ?_)
  · skip
    refine lv_iconst (v := (iI 0)) hx hb dX0_length_16 (by decide +kernel) ?_
    exact tr_iret (wv := wX h cI cZ) (u := u) hx hb hret hlk hK hP hD hS dX0_length_17 (⟨rfl, (tr_lenA_1 c4).symm⟩)
  · skip
    obtain ⟨r, hr, rfl⟩ := tr_ok_n c4
    refine lv_aload_n hx hb dX0_length_7 rfl (lv_at hl 0 rfl) ?_
    refine tr_xg (x := .ref (h 15)) S0 hK hP 15 (by decide) q42 rfl rfl dX0_length_8 ?_
    refine lv_iload_n hx hb dX0_length_11 rfl (lv_at hl 1 rfl) ?_
    refine tr_ald (v := (nI ((tr_tx S r).length))) hx hb hK hP 15 0 rfl rfl (by decide) (by omega) (hR.tl r hr) dX0_length_12 ?_
    refine lv_goto (tgt := 17) hx hb dX0_length_13 (by decide) ?_
    exact tr_iret (wv := wX h cI cZ) (u := u) hx hb hret hlk hK hP hD hS dX0_length_17 (⟨rfl, (tr_lenA_2 hr).symm⟩)

set_option maxHeartbeats 4000000 in
theorem tr_X_row (l : Launch) (D : va_G) (h : Nat → Nat) (cI cZ : ClassId) (S : TS) (u : XW) (hR : RepX S u) (hI : tr_Inv S) (x : Int32) : tr_MR l yX0_row cX0_row 2 (some .int) 1 20 D tr_cl (tr_ty cI cZ) (wX h cI cZ) [.ref (h 0), .int x] u (fun z => z = tr_rowA S x) := by
  refine tr_enterI RX0 rfl (by decide) (Nat.le_of_ble_eq_true rfl) ?_
  intro p e s m below meth c0 A ls S0 hret hlk hK hP hD hS hA hl
  have hx := S0.1
  have hb := S0.2.1
  have hl : lv_has ls 2 [(0, .ref (h 0)), (1, .int x)] := hl
  refine lv_iload_n hx hb dX0_row_0 rfl (lv_at hl 1 rfl) ?_
  refine tr_callS (As := [.int x]) (rest := []) S0 (tr_X_isReplica l x) 1 (lw_S q82 q83 q17 q84) (by decide +kernel) ⟨Nat.le_of_ble_eq_true rfl, Nat.le_of_ble_eq_true rfl⟩ hP hS hA rfl hl.1 rfl (Nat.le_of_ble_eq_true rfl) dX0_row_1 ⟨Nat.le_of_ble_eq_true rfl, Nat.le_of_ble_eq_true rfl⟩ (fun r1 hw1 H locs hP hS => ?_)
  subst hw1
  refine tr_feqB (tgt := 16) hx hb dX0_row_4 (by decide) (fun c4 => ?_) (fun c4 => ?_)
  · skip
    refine lv_iconst (v := (iI 0)) hx hb dX0_row_16 (by decide +kernel) ?_
    exact tr_iret (wv := wX h cI cZ) (u := u) hx hb hret hlk hK hP hD hS dX0_row_17 (⟨rfl, (tr_rowA_1 c4).symm⟩)
  · skip
    obtain ⟨r, hr, rfl⟩ := tr_ok_n c4
    refine lv_aload_n hx hb dX0_row_7 rfl (lv_at hl 0 rfl) ?_
    refine tr_xg (x := .ref (h 14)) S0 hK hP 14 (by decide) q41 rfl rfl dX0_row_8 ?_
    refine lv_iload_n hx hb dX0_row_11 rfl (lv_at hl 1 rfl) ?_
    refine tr_ald (v := (nI ((S.row r).length))) hx hb hK hP 14 0 rfl rfl (by decide) (by omega) (hR.rl r hr) dX0_row_12 ?_
    refine lv_goto (tgt := 17) hx hb dX0_row_13 (by decide) ?_
    exact tr_iret (wv := wX h cI cZ) (u := u) hx hb hret hlk hK hP hD hS dX0_row_17 (⟨rfl, (tr_rowA_2 hr).symm⟩)

set_option maxHeartbeats 4000000 in
theorem tr_X_known (l : Launch) (D : va_G) (h : Nat → Nat) (cI cZ : ClassId) (S : TS) (u : XW) (hR : RepX S u) (hI : tr_Inv S) (x y : Int32) : tr_MR l yX0_known cX0_known 3 (some .int) 1 20 D tr_cl (tr_ty cI cZ) (wX h cI cZ) [.ref (h 0), .int x, .int y] u (fun z => z = tr_knoA S x y) := by
  refine tr_enterI RX0 rfl (by decide) (Nat.le_of_ble_eq_true rfl) ?_
  intro p e s m below meth c0 A ls S0 hret hlk hK hP hD hS hA hl
  have hx := S0.1
  have hb := S0.2.1
  have hl : lv_has ls 3 [(0, .ref (h 0)), (1, .int x), (2, .int y)] := hl
  refine lv_iload_n hx hb dX0_known_0 rfl (lv_at hl 1 rfl) ?_
  refine tr_callS (As := [.int x]) (rest := []) S0 (tr_X_isReplica l x) 1 (lw_S q82 q83 q17 q84) (by decide +kernel) ⟨Nat.le_of_ble_eq_true rfl, Nat.le_of_ble_eq_true rfl⟩ hP hS hA rfl hl.1 rfl (Nat.le_of_ble_eq_true rfl) dX0_known_1 ⟨Nat.le_of_ble_eq_true rfl, Nat.le_of_ble_eq_true rfl⟩ (fun r1 hw1 H locs hP hS => ?_)
  subst hw1
  refine tr_feqB (tgt := 27) hx hb dX0_known_4 (by decide) (fun c4 => ?_) (fun c4 => ?_)
  · skip
    refine lv_iconst (v := (iI 0)) hx hb dX0_known_27 (by decide +kernel) ?_
    exact tr_iret (wv := wX h cI cZ) (u := u) hx hb hret hlk hK hP hD hS dX0_known_28 (⟨rfl, (tr_knoA_1 c4).symm⟩)
  · skip
    obtain ⟨r, hr, rfl⟩ := tr_ok_n c4
    refine lv_iload_n hx hb dX0_known_7 rfl (lv_at hl 2 rfl) ?_
    refine tr_callS (As := [.int y]) (rest := []) S0 (tr_X_isReplica l y) 1 (lw_S q82 q83 q17 q84) (by decide +kernel) ⟨Nat.le_of_ble_eq_true rfl, Nat.le_of_ble_eq_true rfl⟩ hP hS hA rfl hl.1 rfl (Nat.le_of_ble_eq_true rfl) dX0_known_8 ⟨Nat.le_of_ble_eq_true rfl, Nat.le_of_ble_eq_true rfl⟩ (fun r8 hw8 H locs hP hS => ?_)
    subst hw8
    refine tr_feqB (tgt := 27) hx hb dX0_known_11 (by decide) (fun c11 => ?_) (fun c11 => ?_)
    · skip
      refine lv_iconst (v := (iI 0)) hx hb dX0_known_27 (by decide +kernel) ?_
      exact tr_iret (wv := wX h cI cZ) (u := u) hx hb hret hlk hK hP hD hS dX0_known_28 (⟨rfl, (tr_knoA_2 c11).symm⟩)
    · skip
      obtain ⟨o, ho, rfl⟩ := tr_ok_n c11
      refine lv_aload_n hx hb dX0_known_14 rfl (lv_at hl 0 rfl) ?_
      refine tr_xg (x := .ref (h 10)) S0 hK hP 10 (by decide) q37 rfl rfl dX0_known_15 ?_
      refine lv_iconst (v := (nI 3)) hx hb dX0_known_18 (by decide +kernel) ?_
      refine lv_iload_n hx hb dX0_known_19 rfl (lv_at hl 1 rfl) ?_
      refine tr_imul (z := (nI (3 * r))) hx hb dX0_known_20 (pk_mul _ _) ?_
      refine lv_iload_n hx hb dX0_known_21 rfl (lv_at hl 2 rfl) ?_
      refine tr_iadd (z := (nI (3 * r + o))) hx hb dX0_known_22 (nI_add _ _) ?_
      refine tr_ald (v := (nI (S.kv r o))) hx hb hK hP 10 0 rfl rfl (by decide) (by omega) (hR.kv r hr o ho) dX0_known_23 ?_
      refine lv_goto (tgt := 28) hx hb dX0_known_24 (by decide) ?_
      exact tr_iret (wv := wX h cI cZ) (u := u) hx hb hret hlk hK hP hD hS dX0_known_28 (⟨rfl, (tr_knoA_3 hr ho).symm⟩)

set_option maxHeartbeats 4000000 in
theorem tr_X_letter (l : Launch) (D : va_G) (h : Nat → Nat) (cI cZ : ClassId) (S : TS) (u : XW) (hR : RepX S u) (hI : tr_Inv S) (x y : Int32) : tr_MR l yX0_letter cX0_letter 4 (some .int) 1 26 D tr_cl (tr_ty cI cZ) (wX h cI cZ) [.ref (h 0), .int x, .int y] u (fun z => z = tr_letA S x y) := by
  refine tr_enterI RX0 rfl (by decide) (Nat.le_of_ble_eq_true rfl) ?_
  intro p e s m below meth c0 A ls S0 hret hlk hK hP hD hS hA hl
  have hx := S0.1
  have hb := S0.2.1
  have hl : lv_has ls 4 [(0, .ref (h 0)), (1, .int x), (2, .int y)] := hl
  refine lv_iload_n hx hb dX0_letter_0 rfl (lv_at hl 1 rfl) ?_
  refine tr_callS (As := [.int x]) (rest := []) S0 (tr_X_isReplica l x) 1 (lw_S q82 q83 q17 q84) (by decide +kernel) ⟨Nat.le_of_ble_eq_true rfl, Nat.le_of_ble_eq_true rfl⟩ hP hS hA rfl hl.1 rfl (Nat.le_of_ble_eq_true rfl) dX0_letter_1 ⟨Nat.le_of_ble_eq_true rfl, Nat.le_of_ble_eq_true rfl⟩ (fun r1 hw1 H locs hP hS => ?_)
  subst hw1
  refine tr_feqB (tgt := 21) hx hb dX0_letter_4 (by decide) (fun c4 => ?_) (fun c4 => ?_)
  · skip
    refine lv_iconst (v := (nI 0)) hx hb dX0_letter_21 (by decide +kernel) ?_
    exact tr_iret (wv := wX h cI cZ) (u := u) hx hb hret hlk hK hP hD hS dX0_letter_22 (⟨rfl, (tr_letA_1 c4).symm⟩)
  · skip
    obtain ⟨r, hr, rfl⟩ := tr_ok_n c4
    have hrl := hI.1.rowlen hr
    have htl := tr_tx_le S r
    have hn48 := hI.1.1.1
    refine lv_iload_n hx hb dX0_letter_7 rfl (lv_at hl 2 rfl) ?_
    refine lv_if_lt (tgt := 21) hx hb dX0_letter_8 (by decide) (fun c8 => ?_) (fun c8 => ?_)
    · skip
      refine lv_iconst (v := (nI 0)) hx hb dX0_letter_21 (by decide +kernel) ?_
      exact tr_iret (wv := wX h cI cZ) (u := u) hx hb hret hlk hK hP hD hS dX0_letter_22 (⟨rfl, (tr_letA_2 c8).symm⟩)
    · skip
      obtain ⟨q, hq, rfl⟩ := nI_of c8
      refine lv_iload_n hx hb dX0_letter_11 rfl (lv_at hl 2 rfl) ?_
      refine lv_aload_n hx hb dX0_letter_12 rfl (lv_at hl 0 rfl) ?_
      refine tr_xg (x := .ref (h 15)) S0 hK hP 15 (by decide) q42 rfl rfl dX0_letter_13 ?_
      refine lv_iload_n hx hb dX0_letter_16 rfl (lv_at hl 1 rfl) ?_
      refine tr_ald (v := (nI ((tr_tx S r).length))) hx hb hK hP 15 0 rfl rfl (by decide) (by omega) (hR.tl r hr) dX0_letter_17 ?_
      refine tr_clt (tgt := 23) hx hb dX0_letter_18 (by decide) (by omega) (by omega) (fun c18 => ?_) (fun c18 => ?_)
      · skip
        have hm := tr_tx_row (tr_getD_mem c18)
        have hm2 := hI.1.rows r hr _ hm
        have hm48 := hI.1.id r hr _ hm
        refine lv_aload_n hx hb dX0_letter_23 rfl (lv_at hl 0 rfl) ?_
        refine lv_iload_n hx hb dX0_letter_24 rfl (lv_at hl 1 rfl) ?_
        refine lv_iload_n hx hb dX0_letter_25 rfl (lv_at hl 2 rfl) ?_
        refine tr_callR (As := [.int (nI r), .int (nI q)]) (rest := []) S0 (tr_X_insertAt l D h cI cZ S u hR r q ((tr_tx S r).getD q 0) hr (by omega) (hI.1.id r hr) hq (tr_getD_some c18)) 2 (lw_V q85 q87 qs0 q17 q88) (by decide +kernel) ⟨Nat.le_of_ble_eq_true rfl, Nat.le_of_ble_eq_true rfl⟩ hK hP hD hS hA rfl rfl rfl hl.1 rfl (Nat.le_of_ble_eq_true rfl) dX0_letter_26 ⟨Nat.le_of_ble_eq_true rfl, Nat.le_of_ble_eq_true rfl⟩ (fun r26 hw26 H locs hP hS => ?_)
        subst hw26
        refine lv_istore_n (lv' := [(3, .int (nI ((tr_tx S r).getD q 0))), (0, .ref (h 0)), (1, .int (nI r)), (2, .int (nI q))]) hx hb dX0_letter_29 rfl hl (by decide) rfl (fun ls hl => ?_)
        refine lv_aload_n hx hb dX0_letter_30 rfl (lv_at hl 1 rfl) ?_
        refine tr_xg (x := .ref (h 4)) S0 hK hP 4 (by decide) q31 rfl rfl dX0_letter_31 ?_
        refine lv_iload_n hx hb dX0_letter_34 rfl (lv_at hl 0 rfl) ?_
        refine tr_ald (v := ((S.le ((tr_tx S r).getD q 0)))) hx hb hK hP 4 0 rfl rfl (by decide) (by omega) (hR.le _ hm2.1 hm2.2) dX0_letter_35 ?_
        exact tr_iret (wv := wX h cI cZ) (u := u) hx hb hret hlk hK hP hD hS dX0_letter_36 (⟨rfl, (tr_letA_4 hr hq c18 (by omega)).symm⟩)
      · skip
        refine lv_iconst (v := (nI 0)) hx hb dX0_letter_21 (by decide +kernel) ?_
        exact tr_iret (wv := wX h cI cZ) (u := u) hx hb hret hlk hK hP hD hS dX0_letter_22 (⟨rfl, (tr_letA_3 hr hq c18).symm⟩)

set_option maxHeartbeats 4000000 in
theorem tr_X_insert (l : Launch) (D : va_G) (h : Nat → Nat) (cI cZ : ClassId) (S : TS) (u : XW) (hR : RepX S u) (hI : tr_Inv S) (x y z : Int32) : tr_MI l yX0_insert cX0_insert 6 (some .int) 3 69 D tr_cl (tr_ty cI cZ) (wX h cI cZ) [.ref (h 0), .int x, .int y, .int z] u (fun k w => k = (tr_insA S x y z).1 ∧ RepX (tr_insA S x y z).2 w) := by
  refine tr_enterI RX0 rfl (by decide) (Nat.le_of_ble_eq_true rfl) ?_
  intro p e s m below meth c0 A ls S0 hret hlk hK hP hD hS hA hl
  have hx := S0.1
  have hb := S0.2.1
  have hl : lv_has ls 6 [(0, .ref (h 0)), (1, .int x), (2, .int y), (3, .int z)] := hl
  refine lv_iload_n hx hb dX0_insert_0 rfl (lv_at hl 1 rfl) ?_
  refine tr_callS (As := [.int x]) (rest := []) S0 (tr_X_isReplica l x) 1 (lw_S q82 q83 q17 q84) (by decide +kernel) ⟨Nat.le_of_ble_eq_true rfl, Nat.le_of_ble_eq_true rfl⟩ hP hS hA rfl hl.1 rfl (Nat.le_of_ble_eq_true rfl) dX0_insert_1 ⟨Nat.le_of_ble_eq_true rfl, Nat.le_of_ble_eq_true rfl⟩ (fun r1 hw1 H locs hP hS => ?_)
  subst hw1
  refine tr_feqB (tgt := 30) hx hb dX0_insert_4 (by decide) (fun c4 => ?_) (fun c4 => ?_)
  · skip
    refine lv_iconst (v := (iI 0)) hx hb dX0_insert_30 (by decide +kernel) ?_
    exact tr_iret (wv := wX h cI cZ) (u := u) hx hb hret hlk hK hP hD hS dX0_insert_31 (⟨by rw [tr_insA_1 c4], by rw [tr_insA_1 c4]; exact hR⟩)
  · skip
    obtain ⟨r, hr, rfl⟩ := tr_ok_n c4
    have hrl := hI.1.rowlen hr
    have htl := tr_tx_le S r
    have hn48 := hI.1.1.1
    refine lv_iload_n hx hb dX0_insert_7 rfl (lv_at hl 2 rfl) ?_
    refine lv_if_lt (tgt := 30) hx hb dX0_insert_8 (by decide) (fun c8 => ?_) (fun c8 => ?_)
    · skip
      refine lv_iconst (v := (iI 0)) hx hb dX0_insert_30 (by decide +kernel) ?_
      exact tr_iret (wv := wX h cI cZ) (u := u) hx hb hret hlk hK hP hD hS dX0_insert_31 (⟨by rw [tr_insA_2 c8], by rw [tr_insA_2 c8]; exact hR⟩)
    · skip
      obtain ⟨q, hq, rfl⟩ := nI_of c8
      refine lv_iload_n hx hb dX0_insert_11 rfl (lv_at hl 2 rfl) ?_
      refine lv_aload_n hx hb dX0_insert_12 rfl (lv_at hl 0 rfl) ?_
      refine tr_xg (x := .ref (h 15)) S0 hK hP 15 (by decide) q42 rfl rfl dX0_insert_13 ?_
      refine lv_iload_n hx hb dX0_insert_16 rfl (lv_at hl 1 rfl) ?_
      refine tr_ald (v := (nI ((tr_tx S r).length))) hx hb hK hP 15 0 rfl rfl (by decide) (by omega) (hR.tl r hr) dX0_insert_17 ?_
      refine tr_cgt (tgt := 30) hx hb dX0_insert_18 (by decide) (by omega) (by omega) (fun c18 => ?_) (fun c18 => ?_)
      · skip
        refine lv_iconst (v := (iI 0)) hx hb dX0_insert_30 (by decide +kernel) ?_
        exact tr_iret (wv := wX h cI cZ) (u := u) hx hb hret hlk hK hP hD hS dX0_insert_31 (⟨by rw [tr_insA_3 hr hq c18], by rw [tr_insA_3 hr hq c18]; exact hR⟩)
      · skip
        refine lv_aload_n hx hb dX0_insert_21 rfl (lv_at hl 0 rfl) ?_
        refine tr_xg (x := .int (nI S.n)) S0 hK hP 0 (by decide) q27 rfl (by rw [← hR.made]; rfl) dX0_insert_22 ?_
        refine lv_bipush (v := (nI 48)) hx hb dX0_insert_25 (by decide +kernel) ?_
        refine tr_clt (tgt := 32) hx hb dX0_insert_27 (by decide) (by omega) (by omega) (fun c27 => ?_) (fun c27 => ?_)
        · skip
          refine tr_seg (D := D) (cl := tr_cl) (A := A) (wv := wX h cI cZ) (τ := Nat) (nL := 6) 48 (lv := fun _ => [(0, .ref (h 0)), (1, .int (nI r)), (2, .int (nI q)), (3, .int z)]) (sk := fun v => [.int (iI v)]) (ww := fun _ => u) (I := fun v => v = tr_insV S r q) ?_ ?_
          · intro v hv H locs ls hP hD hS hl
            have hl : lv_has ls 6 [(0, .ref (h 0)), (1, .int (nI r)), (2, .int (nI q)), (3, .int z)] := hl
            refine lv_istore (lv' := [(4, .int (iI v)), (0, .ref (h 0)), (1, .int (nI r)), (2, .int (nI q)), (3, .int z)]) hx hb dX0_insert_48 hl (by decide) rfl (fun ls hl => ?_)
            refine lv_aload_n hx hb dX0_insert_50 rfl (lv_at hl 1 rfl) ?_
            refine lv_iload_n hx hb dX0_insert_51 rfl (lv_at hl 2 rfl) ?_
            refine lv_iconst (v := (bI true)) hx hb dX0_insert_52 (by decide +kernel) ?_
            refine tr_callI (As := [.int (nI r), .int (bI true)]) (rest := []) S0 (tr_X_newChange l D h cI cZ S u hR r true hr c27) 2 (lw_V q89 q91 qs1 q17 q92) (by decide +kernel) ⟨Nat.le_of_ble_eq_true rfl, Nat.le_of_ble_eq_true rfl⟩ hK hP hD hS hA rfl rfl rfl hl.1 rfl (Nat.le_of_ble_eq_true rfl) dX0_insert_53 ⟨Nat.le_of_ble_eq_true rfl, Nat.le_of_ble_eq_true rfl⟩ (fun r53 u1 H locs hw53 hP hD hS => ?_)
            obtain ⟨rfl, hu1⟩ := hw53
            refine lv_istore (lv' := [(5, .int (nI S.n)), (4, .int (iI v)), (0, .ref (h 0)), (1, .int (nI r)), (2, .int (nI q)), (3, .int z)]) hx hb dX0_insert_56 hl (by decide) rfl (fun ls hl => ?_)
            refine lv_aload_n hx hb dX0_insert_58 rfl (lv_at hl 2 rfl) ?_
            refine tr_xg (x := .ref (h 4)) S0 hK hP 4 (by decide) q31 rfl rfl dX0_insert_59 ?_
            refine lv_iload hx hb dX0_insert_62 (lv_at hl 0 rfl) ?_
            refine lv_iload_n hx hb dX0_insert_64 rfl (lv_at hl 5 rfl) ?_
            refine tr_ast (ws' := wX h cI cZ (sX u1 4 S.n z)) hx hb hK hP hD hS 4 0 rfl rfl (by decide) (by omega) rfl dX0_insert_65 (fun H locs hP hD hS => ?_)
            refine lv_aload_n hx hb dX0_insert_66 rfl (lv_at hl 2 rfl) ?_
            refine tr_xg (x := .ref (h 5)) S0 hK hP 5 (by decide) q32 rfl rfl dX0_insert_67 ?_
            refine lv_iload hx hb dX0_insert_70 (lv_at hl 0 rfl) ?_
            refine lv_iload hx hb dX0_insert_72 (lv_at hl 1 rfl) ?_
            refine tr_ast (ws' := wX h cI cZ (sX (sX u1 4 S.n z) 5 S.n (iI v))) hx hb hK hP hD hS 5 0 rfl rfl (by decide) (by omega) rfl dX0_insert_74 (fun H locs hP hD hS => ?_)
            refine lv_aload_n hx hb dX0_insert_75 rfl (lv_at hl 2 rfl) ?_
            refine tr_xg (x := .ref (h 6)) S0 hK hP 6 (by decide) q33 rfl rfl dX0_insert_76 ?_
            refine lv_iload hx hb dX0_insert_79 (lv_at hl 0 rfl) ?_
            refine lv_aload_n hx hb dX0_insert_81 rfl (lv_at hl 2 rfl) ?_
            refine tr_xg (x := .ref (h 11)) S0 hK hP 11 (by decide) q38 rfl rfl dX0_insert_82 ?_
            refine lv_iload_n hx hb dX0_insert_85 rfl (lv_at hl 3 rfl) ?_
            refine tr_ald (v := (nI (S.gr r))) hx hb hK hP 11 0 rfl rfl (by decide) (by omega) (by rw [hu1]; exact hR.gr r hr) dX0_insert_86 ?_
            refine lv_iconst (v := (nI 1)) hx hb dX0_insert_87 (by decide +kernel) ?_
            refine tr_iadd (z := (nI (S.gr r + 1))) hx hb dX0_insert_88 (nI_add _ _) ?_
            refine tr_ast (ws' := wX h cI cZ (sX (sX (sX u1 4 S.n z) 5 S.n (iI v)) 6 S.n (nI (S.gr r + 1)))) hx hb hK hP hD hS 6 0 rfl rfl (by decide) (by omega) rfl dX0_insert_89 (fun H locs hP hD hS => ?_)
            have hR2 : RepX (tr_new S r true v z (S.gr r + 1)) (sX (sX (sX u1 4 S.n z) 5 S.n (iI v)) 6 S.n (nI (S.gr r + 1))) := by
              subst hu1
              exact hR.new hr c27 (fun c hc => (hI.1.1.2 c hc).1) rfl (fun k h1 h2 => by match k, h1, h2 with | 10, _, _ => rfl | 11, _, _ => rfl | 12, _, _ => rfl | 13, _, _ => rfl | 14, _, _ => rfl | 15, _, _ => rfl | k + 16, _, h2 => exact absurd h2 (by omega)) rfl rfl rfl (fun c hc => tr_u_n (by omega)) (fun c hc => tr_u_n (by omega)) (fun c hc => tr_u_n (by omega)) (fun c hc => rfl) (fun _ => ⟨tr_u_s, tr_u_s, tr_u_s⟩) (fun e => by cases e) rfl rfl
            generalize (sX (sX (sX u1 4 S.n z) 5 S.n (iI v)) 6 S.n (nI (S.gr r + 1))) = u2 at hR2 hP hD
            rw [hv] at hR2
            refine lv_aload_n hx hb dX0_insert_90 rfl (lv_at hl 2 rfl) ?_
            refine lv_iload_n hx hb dX0_insert_91 rfl (lv_at hl 3 rfl) ?_
            refine lv_iload hx hb dX0_insert_92 (lv_at hl 0 rfl) ?_
            refine tr_callV (As := [.int (nI r), .int (nI S.n)]) (rest := []) S0 (tr_X_learn l D h cI cZ (tr_insN S r q z) u2 hR2 (tr_I_new hI hr c27 (fun e => by cases e) (tr_insV_mem c18) (fun _ => rfl)) r S.n hr (Nat.lt_succ_self _) (tr_new_next hI.2 hr) (tr_new_cl hI.1 hr (tr_insV_mem c18))) 2 (lw_V q93 q95 qs2 q17 q96) (by decide +kernel) ⟨Nat.le_of_ble_eq_true rfl, Nat.le_of_ble_eq_true rfl⟩ hK hP hD hS hA rfl rfl rfl hl.1 rfl (Nat.le_of_ble_eq_true rfl) dX0_insert_94 ⟨Nat.le_of_ble_eq_true rfl, Nat.le_of_ble_eq_true rfl⟩ (fun u3 H locs hw94 hP hD hS => ?_)
            refine lv_aload_n hx hb dX0_insert_97 rfl (lv_at hl 2 rfl) ?_
            refine tr_xg (x := .ref (h 15)) S0 hK hP 15 (by decide) q42 rfl rfl dX0_insert_98 ?_
            refine lv_iload_n hx hb dX0_insert_101 rfl (lv_at hl 3 rfl) ?_
            refine tr_ald (v := (nI ((tr_tx (tr_insS S r q z) r).length))) hx hb hK hP 15 0 rfl rfl (by decide) (by omega) (hw94.tl r hr) dX0_insert_102 ?_
            exact tr_iret (wv := wX h cI cZ) (u := u3) hx hb hret hlk hK hP hD hS dX0_insert_103 (⟨by rw [tr_insA_5 hr hq c18 (by omega) c27], by rw [tr_insA_5 hr hq c18 (by omega) c27]; exact hw94⟩)
          · intro seg
            refine lv_iload_n hx hb dX0_insert_32 rfl (lv_at hl 2 rfl) ?_
            refine tr_fneN (tgt := 40) hx hb dX0_insert_33 (by decide) (by omega) (fun c33 => ?_) (fun c33 => ?_)
            · skip
              refine lv_aload_n hx hb dX0_insert_40 rfl (lv_at hl 0 rfl) ?_
              refine lv_iload_n hx hb dX0_insert_41 rfl (lv_at hl 1 rfl) ?_
              refine lv_iload_n hx hb dX0_insert_42 rfl (lv_at hl 2 rfl) ?_
              refine lv_iconst (v := (nI 1)) hx hb dX0_insert_43 (by decide +kernel) ?_
              refine tr_isub (z := (nI (q - 1))) hx hb dX0_insert_44 (pk_sub (by omega)) ?_
              refine tr_callR (As := [.int (nI r), .int (nI (q - 1))]) (rest := []) S0 (tr_X_insertAt l D h cI cZ S u hR r (q - 1) ((tr_tx S r).getD (q - 1) 0) hr (by omega) (hI.1.id r hr) (by omega) (tr_getD_some (by omega))) 2 (lw_V q85 q87 qs0 q17 q88) (by decide +kernel) ⟨Nat.le_of_ble_eq_true rfl, Nat.le_of_ble_eq_true rfl⟩ hK hP hD hS hA rfl rfl rfl hl.1 rfl (Nat.le_of_ble_eq_true rfl) dX0_insert_45 ⟨Nat.le_of_ble_eq_true rfl, Nat.le_of_ble_eq_true rfl⟩ (fun r45 hw45 H locs hP hS => ?_)
              obtain rfl : r45 = iI ((tr_tx S r).getD (q - 1) 0 + 1) := hw45.trans (iI_s _).symm
              exact seg _ (by unfold tr_insV; rw [if_neg c33]) H locs ls hP hD hS (lv_sub hl [0, 1, 2, 3] rfl)
            · skip
              refine lv_iconst (v := (iI 0)) hx hb dX0_insert_36 (by decide +kernel) ?_
              refine lv_goto (tgt := 48) hx hb dX0_insert_37 (by decide) ?_
              exact seg 0 (by unfold tr_insV; rw [if_pos c33]) H locs ls hP hD hS (lv_sub hl [0, 1, 2, 3] rfl)
        · skip
          refine lv_iconst (v := (iI 0)) hx hb dX0_insert_30 (by decide +kernel) ?_
          exact tr_iret (wv := wX h cI cZ) (u := u) hx hb hret hlk hK hP hD hS dX0_insert_31 (⟨by rw [tr_insA_4 c27], by rw [tr_insA_4 c27]; exact hR⟩)
set_option maxHeartbeats 4000000 in
theorem tr_X_delete (l : Launch) (D : va_G) (h : Nat → Nat) (cI cZ : ClassId) (S : TS) (u : XW) (hR : RepX S u) (hI : tr_Inv S) (x y : Int32) : tr_MI l yX0_delete cX0_delete 5 (some .int) 3 69 D tr_cl (tr_ty cI cZ) (wX h cI cZ) [.ref (h 0), .int x, .int y] u (fun k w => k = (tr_delA S x y).1 ∧ RepX (tr_delA S x y).2 w) := by
  refine tr_enterI RX0 rfl (by decide) (Nat.le_of_ble_eq_true rfl) ?_
  intro p e s m below meth c0 A ls S0 hret hlk hK hP hD hS hA hl
  have hx := S0.1
  have hb := S0.2.1
  have hl : lv_has ls 5 [(0, .ref (h 0)), (1, .int x), (2, .int y)] := hl
  refine lv_iload_n hx hb dX0_delete_0 rfl (lv_at hl 1 rfl) ?_
  refine tr_callS (As := [.int x]) (rest := []) S0 (tr_X_isReplica l x) 1 (lw_S q82 q83 q17 q84) (by decide +kernel) ⟨Nat.le_of_ble_eq_true rfl, Nat.le_of_ble_eq_true rfl⟩ hP hS hA rfl hl.1 rfl (Nat.le_of_ble_eq_true rfl) dX0_delete_1 ⟨Nat.le_of_ble_eq_true rfl, Nat.le_of_ble_eq_true rfl⟩ (fun r1 hw1 H locs hP hS => ?_)
  subst hw1
  refine tr_feqB (tgt := 30) hx hb dX0_delete_4 (by decide) (fun c4 => ?_) (fun c4 => ?_)
  · skip
    refine lv_iconst (v := (iI 0)) hx hb dX0_delete_30 (by decide +kernel) ?_
    exact tr_iret (wv := wX h cI cZ) (u := u) hx hb hret hlk hK hP hD hS dX0_delete_31 (⟨by rw [tr_delA_1 c4], by rw [tr_delA_1 c4]; exact hR⟩)
  · skip
    obtain ⟨r, hr, rfl⟩ := tr_ok_n c4
    have hrl := hI.1.rowlen hr
    have htl := tr_tx_le S r
    have hn48 := hI.1.1.1
    refine lv_iload_n hx hb dX0_delete_7 rfl (lv_at hl 2 rfl) ?_
    refine lv_if_lt (tgt := 30) hx hb dX0_delete_8 (by decide) (fun c8 => ?_) (fun c8 => ?_)
    · skip
      refine lv_iconst (v := (iI 0)) hx hb dX0_delete_30 (by decide +kernel) ?_
      exact tr_iret (wv := wX h cI cZ) (u := u) hx hb hret hlk hK hP hD hS dX0_delete_31 (⟨by rw [tr_delA_2 c8], by rw [tr_delA_2 c8]; exact hR⟩)
    · skip
      obtain ⟨q, hq, rfl⟩ := nI_of c8
      refine lv_iload_n hx hb dX0_delete_11 rfl (lv_at hl 2 rfl) ?_
      refine lv_aload_n hx hb dX0_delete_12 rfl (lv_at hl 0 rfl) ?_
      refine tr_xg (x := .ref (h 15)) S0 hK hP 15 (by decide) q42 rfl rfl dX0_delete_13 ?_
      refine lv_iload_n hx hb dX0_delete_16 rfl (lv_at hl 1 rfl) ?_
      refine tr_ald (v := (nI ((tr_tx S r).length))) hx hb hK hP 15 0 rfl rfl (by decide) (by omega) (hR.tl r hr) dX0_delete_17 ?_
      refine tr_cge (tgt := 30) hx hb dX0_delete_18 (by decide) (by omega) (by omega) (fun c18 => ?_) (fun c18 => ?_)
      · skip
        refine lv_iconst (v := (iI 0)) hx hb dX0_delete_30 (by decide +kernel) ?_
        exact tr_iret (wv := wX h cI cZ) (u := u) hx hb hret hlk hK hP hD hS dX0_delete_31 (⟨by rw [tr_delA_3 hr hq c18], by rw [tr_delA_3 hr hq c18]; exact hR⟩)
      · skip
        refine lv_aload_n hx hb dX0_delete_21 rfl (lv_at hl 0 rfl) ?_
        refine tr_xg (x := .int (nI S.n)) S0 hK hP 0 (by decide) q27 rfl (by rw [← hR.made]; rfl) dX0_delete_22 ?_
        refine lv_bipush (v := (nI 48)) hx hb dX0_delete_25 (by decide +kernel) ?_
        refine tr_clt (tgt := 32) hx hb dX0_delete_27 (by decide) (by omega) (by omega) (fun c27 => ?_) (fun c27 => ?_)
        · skip
          refine lv_aload_n hx hb dX0_delete_32 rfl (lv_at hl 0 rfl) ?_
          refine lv_iload_n hx hb dX0_delete_33 rfl (lv_at hl 1 rfl) ?_
          refine lv_iload_n hx hb dX0_delete_34 rfl (lv_at hl 2 rfl) ?_
          refine tr_callR (As := [.int (nI r), .int (nI q)]) (rest := []) S0 (tr_X_insertAt l D h cI cZ S u hR r q ((tr_tx S r).getD q 0) hr (by omega) (hI.1.id r hr) hq (tr_getD_some c18)) 2 (lw_V q85 q87 qs0 q17 q88) (by decide +kernel) ⟨Nat.le_of_ble_eq_true rfl, Nat.le_of_ble_eq_true rfl⟩ hK hP hD hS hA rfl rfl rfl hl.1 rfl (Nat.le_of_ble_eq_true rfl) dX0_delete_35 ⟨Nat.le_of_ble_eq_true rfl, Nat.le_of_ble_eq_true rfl⟩ (fun r35 hw35 H locs hP hS => ?_)
          obtain rfl : r35 = iI ((tr_tx S r).getD q 0 + 1) := hw35.trans (iI_s _).symm
          refine lv_istore_n (lv' := [(3, .int (iI ((tr_tx S r).getD q 0 + 1))), (0, .ref (h 0)), (1, .int (nI r)), (2, .int (nI q))]) hx hb dX0_delete_38 rfl hl (by decide) rfl (fun ls hl => ?_)
          refine lv_aload_n hx hb dX0_delete_39 rfl (lv_at hl 1 rfl) ?_
          refine lv_iload_n hx hb dX0_delete_40 rfl (lv_at hl 2 rfl) ?_
          refine lv_iconst (v := (bI false)) hx hb dX0_delete_41 (by decide +kernel) ?_
          refine tr_callI (As := [.int (nI r), .int (bI false)]) (rest := []) S0 (tr_X_newChange l D h cI cZ S u hR r false hr c27) 2 (lw_V q89 q91 qs1 q17 q92) (by decide +kernel) ⟨Nat.le_of_ble_eq_true rfl, Nat.le_of_ble_eq_true rfl⟩ hK hP hD hS hA rfl rfl rfl hl.1 rfl (Nat.le_of_ble_eq_true rfl) dX0_delete_42 ⟨Nat.le_of_ble_eq_true rfl, Nat.le_of_ble_eq_true rfl⟩ (fun r42 u1 H locs hw42 hP hD hS => ?_)
          obtain ⟨rfl, hu1⟩ := hw42
          refine lv_istore (lv' := [(4, .int (nI S.n)), (3, .int (iI ((tr_tx S r).getD q 0 + 1))), (0, .ref (h 0)), (1, .int (nI r)), (2, .int (nI q))]) hx hb dX0_delete_45 hl (by decide) rfl (fun ls hl => ?_)
          refine lv_aload_n hx hb dX0_delete_47 rfl (lv_at hl 2 rfl) ?_
          refine tr_xg (x := .ref (h 7)) S0 hK hP 7 (by decide) q34 rfl rfl dX0_delete_48 ?_
          refine lv_iload hx hb dX0_delete_51 (lv_at hl 0 rfl) ?_
          refine lv_iload_n hx hb dX0_delete_53 rfl (lv_at hl 1 rfl) ?_
          refine tr_ast (ws' := wX h cI cZ (sX u1 7 S.n (iI ((tr_tx S r).getD q 0 + 1)))) hx hb hK hP hD hS 7 0 rfl rfl (by decide) (by omega) rfl dX0_delete_54 (fun H locs hP hD hS => ?_)
          have hR2 : RepX (tr_delN S r q) (sX u1 7 S.n (iI ((tr_tx S r).getD q 0 + 1))) := by
            subst hu1
            exact hR.new hr c27 (fun c hc => (hI.1.1.2 c hc).1) rfl (fun k h1 h2 => by match k, h1, h2 with | 10, _, _ => rfl | 11, _, _ => rfl | 12, _, _ => rfl | 13, _, _ => rfl | 14, _, _ => rfl | 15, _, _ => rfl | k + 16, _, h2 => exact absurd h2 (by omega)) rfl rfl rfl (fun c hc => rfl) (fun c hc => rfl) (fun c hc => rfl) (fun c hc => tr_u_n (by omega)) (fun e => by cases e) (fun _ => tr_u_s) rfl rfl
          generalize (sX u1 7 S.n (iI ((tr_tx S r).getD q 0 + 1))) = u2 at hR2 hP hD
          refine lv_aload_n hx hb dX0_delete_55 rfl (lv_at hl 2 rfl) ?_
          refine lv_iload_n hx hb dX0_delete_56 rfl (lv_at hl 3 rfl) ?_
          refine lv_iload hx hb dX0_delete_57 (lv_at hl 0 rfl) ?_
          refine tr_callV (As := [.int (nI r), .int (nI S.n)]) (rest := []) S0 (tr_X_learn l D h cI cZ (tr_delN S r q) u2 hR2 (tr_I_new hI hr c27 (fun _ => by omega) (tr_delV_mem c18) (fun e => by cases e)) r S.n hr (Nat.lt_succ_self _) (tr_new_next hI.2 hr) (tr_new_cl hI.1 hr (tr_delV_mem c18))) 2 (lw_V q93 q95 qs2 q17 q96) (by decide +kernel) ⟨Nat.le_of_ble_eq_true rfl, Nat.le_of_ble_eq_true rfl⟩ hK hP hD hS hA rfl rfl rfl hl.1 rfl (Nat.le_of_ble_eq_true rfl) dX0_delete_59 ⟨Nat.le_of_ble_eq_true rfl, Nat.le_of_ble_eq_true rfl⟩ (fun u3 H locs hw59 hP hD hS => ?_)
          refine lv_aload_n hx hb dX0_delete_62 rfl (lv_at hl 2 rfl) ?_
          refine tr_xg (x := .ref (h 15)) S0 hK hP 15 (by decide) q42 rfl rfl dX0_delete_63 ?_
          refine lv_iload_n hx hb dX0_delete_66 rfl (lv_at hl 3 rfl) ?_
          refine tr_ald (v := (nI ((tr_tx (tr_delS S r q) r).length))) hx hb hK hP 15 0 rfl rfl (by decide) (by omega) (hw59.tl r hr) dX0_delete_67 ?_
          exact tr_iret (wv := wX h cI cZ) (u := u3) hx hb hret hlk hK hP hD hS dX0_delete_68 (⟨by rw [tr_delA_5 hr hq c18 (by omega) c27], by rw [tr_delA_5 hr hq c18 (by omega) c27]; exact hw59⟩)
        · skip
          refine lv_iconst (v := (iI 0)) hx hb dX0_delete_30 (by decide +kernel) ?_
          exact tr_iret (wv := wX h cI cZ) (u := u) hx hb hret hlk hK hP hD hS dX0_delete_31 (⟨by rw [tr_delA_4 c27], by rw [tr_delA_4 c27]; exact hR⟩)
set_option maxHeartbeats 4000000 in
theorem tr_X_deliver (l : Launch) (D : va_G) (h : Nat → Nat) (cI cZ : ClassId) (S : TS) (u : XW) (hR : RepX S u) (hI : tr_Inv S) (x y : Int32) : tr_MI l yX0_deliver cX0_deliver 6 (some .int) 3 69 D tr_cl (tr_ty cI cZ) (wX h cI cZ) [.ref (h 0), .int x, .int y] u (fun k w => k = (tr_dlvA S x y).1 ∧ RepX (tr_dlvA S x y).2 w) := by
  refine tr_enterI RX0 rfl (by decide) (Nat.le_of_ble_eq_true rfl) ?_
  intro p e s m below meth c0 A ls S0 hret hlk hK hP hD hS hA hl
  have hx := S0.1
  have hb := S0.2.1
  have hl : lv_has ls 6 [(0, .ref (h 0)), (1, .int x), (2, .int y)] := hl
  refine lv_iload_n hx hb dX0_deliver_0 rfl (lv_at hl 1 rfl) ?_
  refine tr_callS (As := [.int x]) (rest := []) S0 (tr_X_isReplica l x) 1 (lw_S q82 q83 q17 q84) (by decide +kernel) ⟨Nat.le_of_ble_eq_true rfl, Nat.le_of_ble_eq_true rfl⟩ hP hS hA rfl hl.1 rfl (Nat.le_of_ble_eq_true rfl) dX0_deliver_1 ⟨Nat.le_of_ble_eq_true rfl, Nat.le_of_ble_eq_true rfl⟩ (fun r1 hw1 H locs hP hS => ?_)
  subst hw1
  refine tr_feqB (tgt := 14) hx hb dX0_deliver_4 (by decide) (fun c4 => ?_) (fun c4 => ?_)
  · skip
    refine lv_iconst (v := (iI 0)) hx hb dX0_deliver_14 (by decide +kernel) ?_
    exact tr_iret (wv := wX h cI cZ) (u := u) hx hb hret hlk hK hP hD hS dX0_deliver_15 (⟨by rw [tr_dlvA_1 c4], by rw [tr_dlvA_1 c4]; exact hR⟩)
  · skip
    obtain ⟨f, hf, rfl⟩ := tr_ok_n c4
    refine lv_iload_n hx hb dX0_deliver_7 rfl (lv_at hl 2 rfl) ?_
    refine tr_callS (As := [.int y]) (rest := []) S0 (tr_X_isReplica l y) 1 (lw_S q82 q83 q17 q84) (by decide +kernel) ⟨Nat.le_of_ble_eq_true rfl, Nat.le_of_ble_eq_true rfl⟩ hP hS hA rfl hl.1 rfl (Nat.le_of_ble_eq_true rfl) dX0_deliver_8 ⟨Nat.le_of_ble_eq_true rfl, Nat.le_of_ble_eq_true rfl⟩ (fun r8 hw8 H locs hP hS => ?_)
    subst hw8
    refine tr_fneB (tgt := 16) hx hb dX0_deliver_11 (by decide) (fun c11 => ?_) (fun c11 => ?_)
    · skip
      obtain ⟨t, ht, rfl⟩ := tr_ok_n c11
      have hn48 := hI.1.1.1
      have hkv := hI.1.2.2.1 t ht f hf
      have hcl := tr_cnt_le S.og f S.n
      refine lv_aload_n hx hb dX0_deliver_16 rfl (lv_at hl 0 rfl) ?_
      refine tr_xg (x := .ref (h 10)) S0 hK hP 10 (by decide) q37 rfl rfl dX0_deliver_17 ?_
      refine lv_iconst (v := (nI 3)) hx hb dX0_deliver_20 (by decide +kernel) ?_
      refine lv_iload_n hx hb dX0_deliver_21 rfl (lv_at hl 2 rfl) ?_
      refine tr_imul (z := (nI (3 * t))) hx hb dX0_deliver_22 (pk_mul _ _) ?_
      refine lv_iload_n hx hb dX0_deliver_23 rfl (lv_at hl 1 rfl) ?_
      refine tr_iadd (z := (nI (3 * t + f))) hx hb dX0_deliver_24 (nI_add _ _) ?_
      refine tr_ald (v := (nI (S.kv t f))) hx hb hK hP 10 0 rfl rfl (by decide) (by omega) (hR.kv t ht f hf) dX0_deliver_25 ?_
      refine lv_iconst (v := (nI 1)) hx hb dX0_deliver_26 (by decide +kernel) ?_
      refine tr_iadd (z := (nI (S.kv t f + 1))) hx hb dX0_deliver_27 (nI_add _ _) ?_
      refine lv_istore_n (lv' := [(3, .int (nI (S.kv t f + 1))), (0, .ref (h 0)), (1, .int (nI f)), (2, .int (nI t))]) hx hb dX0_deliver_28 rfl hl (by decide) rfl (fun ls hl => ?_)
      refine lv_iload_n hx hb dX0_deliver_29 rfl (lv_at hl 0 rfl) ?_
      refine lv_aload_n hx hb dX0_deliver_30 rfl (lv_at hl 1 rfl) ?_
      refine tr_xg (x := .ref (h 8)) S0 hK hP 8 (by decide) q35 rfl rfl dX0_deliver_31 ?_
      refine lv_iload_n hx hb dX0_deliver_34 rfl (lv_at hl 2 rfl) ?_
      refine tr_ald (v := (nI (tr_cnt S.og f S.n))) hx hb hK hP 8 0 rfl rfl (by decide) (by omega) (hR.by f hf) dX0_deliver_35 ?_
      refine tr_cle (tgt := 41) hx hb dX0_deliver_36 (by decide) (by omega) (by omega) (fun c36 => ?_) (fun c36 => ?_)
      · skip
        obtain ⟨c, hcn, hco, hcnum⟩ := tr_num_ex S f S.n (S.kv t f + 1) (by omega) c36
        have hpc := (hI.1.1.2 c hcn).2.1
        refine lv_aload_n hx hb dX0_deliver_41 rfl (lv_at hl 1 rfl) ?_
        refine tr_xg (x := .ref (h 9)) S0 hK hP 9 (by decide) q36 rfl rfl dX0_deliver_42 ?_
        refine lv_bipush (v := (nI 49)) hx hb dX0_deliver_45 (by decide +kernel) ?_
        refine lv_iload_n hx hb dX0_deliver_47 rfl (lv_at hl 2 rfl) ?_
        refine tr_imul (z := (nI (49 * f))) hx hb dX0_deliver_48 (pk_mul _ _) ?_
        refine lv_iload_n hx hb dX0_deliver_49 rfl (lv_at hl 0 rfl) ?_
        refine tr_iadd (z := (nI (49 * f + (S.kv t f + 1)))) hx hb dX0_deliver_50 (nI_add _ _) ?_
        refine tr_ald (v := (nI c)) hx hb hK hP 9 0 rfl rfl (by decide) (by omega) (by have := hR.ch c hcn; rw [hco, hcnum] at this; exact this) dX0_deliver_51 ?_
        refine lv_istore (lv' := [(4, .int (nI c)), (3, .int (nI (S.kv t f + 1))), (0, .ref (h 0)), (1, .int (nI f)), (2, .int (nI t))]) hx hb dX0_deliver_52 hl (by decide) rfl (fun ls hl => ?_)
        refine lv_aload_n hx hb dX0_deliver_54 rfl (lv_at hl 2 rfl) ?_
        refine tr_xg (x := .ref (h 1)) S0 hK hP 1 (by decide) q28 rfl rfl dX0_deliver_55 ?_
        refine lv_iload hx hb dX0_deliver_58 (lv_at hl 0 rfl) ?_
        refine tr_zld (v := (bI (S.ins c))) hx hb hK hP 1 1 rfl rfl (by decide) (by omega) (hR.ins c hcn) dX0_deliver_60 ?_
        refine tr_feqB (tgt := 74) hx hb dX0_deliver_61 (by decide) (fun c61 => ?_) (fun c61 => ?_)
        · skip
          refine lv_aload_n hx hb dX0_deliver_74 rfl (lv_at hl 2 rfl) ?_
          refine tr_xg (x := .ref (h 7)) S0 hK hP 7 (by decide) q34 rfl rfl dX0_deliver_75 ?_
          refine lv_iload hx hb dX0_deliver_78 (lv_at hl 0 rfl) ?_
          refine tr_ald (v := (iI (S.pa c))) hx hb hK hP 7 0 rfl rfl (by decide) (by omega) (hR.tg c hcn c61) dX0_deliver_80 ?_
          refine lv_istore (lv' := [(5, .int (iI (S.pa c))), (4, .int (nI c)), (3, .int (nI (S.kv t f + 1))), (0, .ref (h 0)), (1, .int (nI f)), (2, .int (nI t))]) hx hb dX0_deliver_81 hl (by decide) rfl (fun ls hl => ?_)
          refine lv_iload hx hb dX0_deliver_83 (lv_at hl 0 rfl) ?_
          refine tr_fltI (tgt := 101) hx hb dX0_deliver_85 (by decide) (by omega) (fun c85 => ?_) (fun c85 => ?_)
          · skip
            refine lv_aload_n hx hb dX0_deliver_101 rfl (lv_at hl 3 rfl) ?_
            refine lv_iload_n hx hb dX0_deliver_102 rfl (lv_at hl 5 rfl) ?_
            refine lv_iload hx hb dX0_deliver_103 (lv_at hl 1 rfl) ?_
            refine tr_callV (As := [.int (nI t), .int (nI c)]) (rest := []) S0 (tr_X_learn l D h cI cZ S u hR hI.1 t c ht hcn (by rw [hco]; exact hcnum) (tr_dlvS_cl (Or.inl c85))) 2 (lw_V q93 q95 qs2 q17 q96) (by decide +kernel) ⟨Nat.le_of_ble_eq_true rfl, Nat.le_of_ble_eq_true rfl⟩ hK hP hD hS hA rfl rfl rfl hl.1 rfl (Nat.le_of_ble_eq_true rfl) dX0_deliver_105 ⟨Nat.le_of_ble_eq_true rfl, Nat.le_of_ble_eq_true rfl⟩ (fun u1 H locs hw105 hP hD hS => ?_)
            refine lv_iconst (v := (nI 0)) hx hb dX0_deliver_108 (by decide +kernel) ?_
            exact tr_iret (wv := wX h cI cZ) (u := u1) hx hb hret hlk hK hP hD hS dX0_deliver_109 (⟨by rw [tr_dlvA_4 hf ht hcn hco hcnum (Or.inl c85)], by rw [tr_dlvA_4 hf ht hcn hco hcnum (Or.inl c85)]; exact hw105⟩)
          · skip
            obtain ⟨a, ea⟩ : ∃ a, S.pa c = a + 1 := ⟨S.pa c - 1, by omega⟩
            rw [ea, iI_s] at hl
            refine lv_aload_n hx hb dX0_deliver_88 rfl (lv_at hl 3 rfl) ?_
            refine lv_iload_n hx hb dX0_deliver_89 rfl (lv_at hl 5 rfl) ?_
            refine lv_iload hx hb dX0_deliver_90 (lv_at hl 0 rfl) ?_
            refine tr_callR (As := [.int (nI t), .int (nI a)]) (rest := []) S0 (tr_X_isKnown l D h cI cZ S u hR hI.1.1 hI.1.2.2.1 t a ht (by omega)) 2 (lw_V q117 q119 qs6 q17 q120) (by decide +kernel) ⟨Nat.le_of_ble_eq_true rfl, Nat.le_of_ble_eq_true rfl⟩ hK hP hD hS hA rfl rfl rfl hl.1 rfl (Nat.le_of_ble_eq_true rfl) dX0_deliver_92 ⟨Nat.le_of_ble_eq_true rfl, Nat.le_of_ble_eq_true rfl⟩ (fun r92 hw92 H locs hP hS => ?_)
            subst hw92
            refine tr_fneB (tgt := 101) hx hb dX0_deliver_95 (by decide) (fun c95 => ?_) (fun c95 => ?_)
            · skip
              refine lv_aload_n hx hb dX0_deliver_101 rfl (lv_at hl 3 rfl) ?_
              refine lv_iload_n hx hb dX0_deliver_102 rfl (lv_at hl 5 rfl) ?_
              refine lv_iload hx hb dX0_deliver_103 (lv_at hl 1 rfl) ?_
              refine tr_callV (As := [.int (nI t), .int (nI c)]) (rest := []) S0 (tr_X_learn l D h cI cZ S u hR hI.1 t c ht hcn (by rw [hco]; exact hcnum) (tr_dlvS_cl (Or.inr (by rw [ea, Nat.add_sub_cancel]; exact c95)))) 2 (lw_V q93 q95 qs2 q17 q96) (by decide +kernel) ⟨Nat.le_of_ble_eq_true rfl, Nat.le_of_ble_eq_true rfl⟩ hK hP hD hS hA rfl rfl rfl hl.1 rfl (Nat.le_of_ble_eq_true rfl) dX0_deliver_105 ⟨Nat.le_of_ble_eq_true rfl, Nat.le_of_ble_eq_true rfl⟩ (fun u1 H locs hw105 hP hD hS => ?_)
              refine lv_iconst (v := (nI 0)) hx hb dX0_deliver_108 (by decide +kernel) ?_
              exact tr_iret (wv := wX h cI cZ) (u := u1) hx hb hret hlk hK hP hD hS dX0_deliver_109 (⟨by rw [tr_dlvA_4 hf ht hcn hco hcnum (Or.inr (by rw [ea, Nat.add_sub_cancel]; exact c95))], by rw [tr_dlvA_4 hf ht hcn hco hcnum (Or.inr (by rw [ea, Nat.add_sub_cancel]; exact c95))]; exact hw105⟩)
            · skip
              refine lv_bipush (v := ((-2))) hx hb dX0_deliver_98 (by decide +kernel) ?_
              exact tr_iret (wv := wX h cI cZ) (u := u) hx hb hret hlk hK hP hD hS dX0_deliver_100 (⟨by rw [tr_dlvA_5 hf ht hcn hco hcnum ea c95], by rw [tr_dlvA_5 hf ht hcn hco hcnum ea c95]; exact hR⟩)
        · skip
          refine lv_aload_n hx hb dX0_deliver_64 rfl (lv_at hl 2 rfl) ?_
          refine tr_xg (x := .ref (h 5)) S0 hK hP 5 (by decide) q32 rfl rfl dX0_deliver_65 ?_
          refine lv_iload hx hb dX0_deliver_68 (lv_at hl 0 rfl) ?_
          refine tr_ald (v := (iI (S.pa c))) hx hb hK hP 5 0 rfl rfl (by decide) (by omega) (hR.pa c hcn c61) dX0_deliver_70 ?_
          refine lv_goto (tgt := 81) hx hb dX0_deliver_71 (by decide) ?_
          refine lv_istore (lv' := [(5, .int (iI (S.pa c))), (4, .int (nI c)), (3, .int (nI (S.kv t f + 1))), (0, .ref (h 0)), (1, .int (nI f)), (2, .int (nI t))]) hx hb dX0_deliver_81 hl (by decide) rfl (fun ls hl => ?_)
          refine lv_iload hx hb dX0_deliver_83 (lv_at hl 0 rfl) ?_
          refine tr_fltI (tgt := 101) hx hb dX0_deliver_85 (by decide) (by omega) (fun c85 => ?_) (fun c85 => ?_)
          · skip
            refine lv_aload_n hx hb dX0_deliver_101 rfl (lv_at hl 3 rfl) ?_
            refine lv_iload_n hx hb dX0_deliver_102 rfl (lv_at hl 5 rfl) ?_
            refine lv_iload hx hb dX0_deliver_103 (lv_at hl 1 rfl) ?_
            refine tr_callV (As := [.int (nI t), .int (nI c)]) (rest := []) S0 (tr_X_learn l D h cI cZ S u hR hI.1 t c ht hcn (by rw [hco]; exact hcnum) (tr_dlvS_cl (Or.inl c85))) 2 (lw_V q93 q95 qs2 q17 q96) (by decide +kernel) ⟨Nat.le_of_ble_eq_true rfl, Nat.le_of_ble_eq_true rfl⟩ hK hP hD hS hA rfl rfl rfl hl.1 rfl (Nat.le_of_ble_eq_true rfl) dX0_deliver_105 ⟨Nat.le_of_ble_eq_true rfl, Nat.le_of_ble_eq_true rfl⟩ (fun u1 H locs hw105 hP hD hS => ?_)
            refine lv_iconst (v := (nI 0)) hx hb dX0_deliver_108 (by decide +kernel) ?_
            exact tr_iret (wv := wX h cI cZ) (u := u1) hx hb hret hlk hK hP hD hS dX0_deliver_109 (⟨by rw [tr_dlvA_4 hf ht hcn hco hcnum (Or.inl c85)], by rw [tr_dlvA_4 hf ht hcn hco hcnum (Or.inl c85)]; exact hw105⟩)
          · skip
            obtain ⟨a, ea⟩ : ∃ a, S.pa c = a + 1 := ⟨S.pa c - 1, by omega⟩
            rw [ea, iI_s] at hl
            refine lv_aload_n hx hb dX0_deliver_88 rfl (lv_at hl 3 rfl) ?_
            refine lv_iload_n hx hb dX0_deliver_89 rfl (lv_at hl 5 rfl) ?_
            refine lv_iload hx hb dX0_deliver_90 (lv_at hl 0 rfl) ?_
            refine tr_callR (As := [.int (nI t), .int (nI a)]) (rest := []) S0 (tr_X_isKnown l D h cI cZ S u hR hI.1.1 hI.1.2.2.1 t a ht (by omega)) 2 (lw_V q117 q119 qs6 q17 q120) (by decide +kernel) ⟨Nat.le_of_ble_eq_true rfl, Nat.le_of_ble_eq_true rfl⟩ hK hP hD hS hA rfl rfl rfl hl.1 rfl (Nat.le_of_ble_eq_true rfl) dX0_deliver_92 ⟨Nat.le_of_ble_eq_true rfl, Nat.le_of_ble_eq_true rfl⟩ (fun r92 hw92 H locs hP hS => ?_)
            subst hw92
            refine tr_fneB (tgt := 101) hx hb dX0_deliver_95 (by decide) (fun c95 => ?_) (fun c95 => ?_)
            · skip
              refine lv_aload_n hx hb dX0_deliver_101 rfl (lv_at hl 3 rfl) ?_
              refine lv_iload_n hx hb dX0_deliver_102 rfl (lv_at hl 5 rfl) ?_
              refine lv_iload hx hb dX0_deliver_103 (lv_at hl 1 rfl) ?_
              refine tr_callV (As := [.int (nI t), .int (nI c)]) (rest := []) S0 (tr_X_learn l D h cI cZ S u hR hI.1 t c ht hcn (by rw [hco]; exact hcnum) (tr_dlvS_cl (Or.inr (by rw [ea, Nat.add_sub_cancel]; exact c95)))) 2 (lw_V q93 q95 qs2 q17 q96) (by decide +kernel) ⟨Nat.le_of_ble_eq_true rfl, Nat.le_of_ble_eq_true rfl⟩ hK hP hD hS hA rfl rfl rfl hl.1 rfl (Nat.le_of_ble_eq_true rfl) dX0_deliver_105 ⟨Nat.le_of_ble_eq_true rfl, Nat.le_of_ble_eq_true rfl⟩ (fun u1 H locs hw105 hP hD hS => ?_)
              refine lv_iconst (v := (nI 0)) hx hb dX0_deliver_108 (by decide +kernel) ?_
              exact tr_iret (wv := wX h cI cZ) (u := u1) hx hb hret hlk hK hP hD hS dX0_deliver_109 (⟨by rw [tr_dlvA_4 hf ht hcn hco hcnum (Or.inr (by rw [ea, Nat.add_sub_cancel]; exact c95))], by rw [tr_dlvA_4 hf ht hcn hco hcnum (Or.inr (by rw [ea, Nat.add_sub_cancel]; exact c95))]; exact hw105⟩)
            · skip
              refine lv_bipush (v := ((-2))) hx hb dX0_deliver_98 (by decide +kernel) ?_
              exact tr_iret (wv := wX h cI cZ) (u := u) hx hb hret hlk hK hP hD hS dX0_deliver_100 (⟨by rw [tr_dlvA_5 hf ht hcn hco hcnum ea c95], by rw [tr_dlvA_5 hf ht hcn hco hcnum ea c95]; exact hR⟩)
      · skip
        have hno : ∀ c, c < S.n → S.og c = f → tr_num S c ≠ S.kv t f + 1 := fun c hc ho e => by
          have := tr_num_le S hc
          rw [ho] at this
          omega
        refine lv_iconst (v := (iI 0)) hx hb dX0_deliver_39 (by decide +kernel) ?_
        exact tr_iret (wv := wX h cI cZ) (u := u) hx hb hret hlk hK hP hD hS dX0_deliver_40 (⟨by rw [tr_dlvA_3 hf ht hno], by rw [tr_dlvA_3 hf ht hno]; exact hR⟩)
    · skip
      refine lv_iconst (v := (iI 0)) hx hb dX0_deliver_14 (by decide +kernel) ?_
      exact tr_iret (wv := wX h cI cZ) (u := u) hx hb hret hlk hK hP hD hS dX0_deliver_15 (⟨by rw [tr_dlvA_2 c11], by rw [tr_dlvA_2 c11]; exact hR⟩)
set_option maxHeartbeats 4000000 in
theorem tr_X_sync (l : Launch) (D : va_G) (h : Nat → Nat) (cI cZ : ClassId) (S : TS) (u : XW) (hR : RepX S u) (hI : tr_Inv S) (x y : Int32) : tr_MI l yX0_sync cX0_sync 4 (some .int) 3 69 D tr_cl (tr_ty cI cZ) (wX h cI cZ) [.ref (h 0), .int x, .int y] u (fun k w => k = (tr_synA S x y).1 ∧ RepX (tr_synA S x y).2 w) := by
  refine tr_enterI RX0 rfl (by decide) (Nat.le_of_ble_eq_true rfl) ?_
  intro p e s m below meth c0 A ls S0 hret hlk hK hP hD hS hA hl
  have hx := S0.1
  have hb := S0.2.1
  have hl : lv_has ls 4 [(0, .ref (h 0)), (1, .int x), (2, .int y)] := hl
  refine lv_iload_n hx hb dX0_sync_0 rfl (lv_at hl 1 rfl) ?_
  refine tr_callS (As := [.int x]) (rest := []) S0 (tr_X_isReplica l x) 1 (lw_S q82 q83 q17 q84) (by decide +kernel) ⟨Nat.le_of_ble_eq_true rfl, Nat.le_of_ble_eq_true rfl⟩ hP hS hA rfl hl.1 rfl (Nat.le_of_ble_eq_true rfl) dX0_sync_1 ⟨Nat.le_of_ble_eq_true rfl, Nat.le_of_ble_eq_true rfl⟩ (fun r1 hw1 H locs hP hS => ?_)
  subst hw1
  refine tr_feqB (tgt := 14) hx hb dX0_sync_4 (by decide) (fun c4 => ?_) (fun c4 => ?_)
  · skip
    refine lv_iconst (v := (iI 0)) hx hb dX0_sync_14 (by decide +kernel) ?_
    exact tr_iret (wv := wX h cI cZ) (u := u) hx hb hret hlk hK hP hD hS dX0_sync_15 (⟨by rw [tr_synA_1 c4], by rw [tr_synA_1 c4]; exact hR⟩)
  · skip
    obtain ⟨f, hf, rfl⟩ := tr_ok_n c4
    refine lv_iload_n hx hb dX0_sync_7 rfl (lv_at hl 2 rfl) ?_
    refine tr_callS (As := [.int y]) (rest := []) S0 (tr_X_isReplica l y) 1 (lw_S q82 q83 q17 q84) (by decide +kernel) ⟨Nat.le_of_ble_eq_true rfl, Nat.le_of_ble_eq_true rfl⟩ hP hS hA rfl hl.1 rfl (Nat.le_of_ble_eq_true rfl) dX0_sync_8 ⟨Nat.le_of_ble_eq_true rfl, Nat.le_of_ble_eq_true rfl⟩ (fun r8 hw8 H locs hP hS => ?_)
    subst hw8
    refine tr_fneB (tgt := 16) hx hb dX0_sync_11 (by decide) (fun c11 => ?_) (fun c11 => ?_)
    · skip
      obtain ⟨t, ht, rfl⟩ := tr_ok_n c11
      have hn48 := hI.1.1.1
      refine lv_iconst (v := (nI 0)) hx hb dX0_sync_16 (by decide +kernel) ?_
      refine lv_istore_n (lv' := [(3, .int (nI 0)), (0, .ref (h 0)), (1, .int (nI f)), (2, .int (nI t))]) hx hb dX0_sync_17 rfl hl (by decide) rfl (fun ls hl => ?_)
      refine tr_loop (wv := wX h cI cZ) (τ := Nat × XW) (lv := fun st => [(0, .ref (h 0)), (1, .int (nI f)), (2, .int (nI t)), (3, .int (nI st.1))]) (ww := fun st => st.2) (I := fun st => st.1 ≤ S.n ∧ RepX (tr_syn S f t st.1) st.2) (μ := fun st => S.n - st.1) ?_ (0, u) ⟨Nat.zero_le _, hR⟩ hP hD hS (lv_sub hl [1, 2, 3, 0] rfl)
      rintro ⟨i, w⟩ ⟨hi, hRw⟩ ih H locs ls hP hD hS hl
      dsimp only at hi hRw hP hD ih
      have hl : lv_has ls 4 [(0, .ref (h 0)), (1, .int (nI f)), (2, .int (nI t)), (3, .int (nI i))] := hl
      have hsy := tr_syn_all hI hf ht i hi
      have hsn := hsy.2.1
      refine lv_iload_n hx hb dX0_sync_18 rfl (lv_at hl 3 rfl) ?_
      refine lv_aload_n hx hb dX0_sync_19 rfl (lv_at hl 0 rfl) ?_
      refine tr_xg (x := .int (nI S.n)) S0 hK hP 0 (by decide) q27 rfl (by rw [← hsn, ← hRw.made]; rfl) dX0_sync_20 ?_
      refine tr_cge (tgt := 56) hx hb dX0_sync_23 (by decide) (by omega) (by omega) (fun c23 => ?_) (fun c23 => ?_)
      · skip
        have ei : i = S.n := by omega
        subst ei
        refine lv_iconst (v := (nI 0)) hx hb dX0_sync_56 (by decide +kernel) ?_
        exact tr_iret (wv := wX h cI cZ) (u := w) hx hb hret hlk hK hP hD hS dX0_sync_57 (⟨by rw [tr_synA_3 hf ht], by rw [tr_synA_3 hf ht]; exact hRw⟩)
      · skip
        refine lv_aload_n hx hb dX0_sync_26 rfl (lv_at hl 0 rfl) ?_
        refine lv_iload_n hx hb dX0_sync_27 rfl (lv_at hl 1 rfl) ?_
        refine lv_iload_n hx hb dX0_sync_28 rfl (lv_at hl 3 rfl) ?_
        refine tr_callR (As := [.int (nI f), .int (nI i)]) (rest := []) S0 (tr_X_isKnown l D h cI cZ (tr_syn S f t i) w hRw hsy.1.1.1 hsy.1.1.2.2.1 f i hf (by omega)) 2 (lw_V q117 q119 qs6 q17 q120) (by decide +kernel) ⟨Nat.le_of_ble_eq_true rfl, Nat.le_of_ble_eq_true rfl⟩ hK hP hD hS hA rfl rfl rfl hl.1 rfl (Nat.le_of_ble_eq_true rfl) dX0_sync_29 ⟨Nat.le_of_ble_eq_true rfl, Nat.le_of_ble_eq_true rfl⟩ (fun r29 hw29 H locs hP hS => ?_)
        subst hw29
        refine tr_feqB (tgt := 50) hx hb dX0_sync_32 (by decide) (fun c32 => ?_) (fun c32 => ?_)
        · skip
          refine lv_iinc (v := (nI (i + 1))) (lv' := [(3, .int (nI (i + 1))), (0, .ref (h 0)), (1, .int (nI f)), (2, .int (nI t))]) hx hb dX0_sync_50 hl (k := 3) rfl (nI_inc _) (by decide) rfl (fun ls hl => ?_)
          refine lv_goto (tgt := 18) hx hb dX0_sync_53 (by decide) ?_
          exact ih (i + 1, w) ⟨by dsimp only; omega, (by show RepX (tr_syn S f t (i + 1)) w; have e : tr_syn S f t (i + 1) = tr_syn S f t i := if_neg (fun q => (by have := q.1; rw [c32] at this; cases this)); rw [e]; exact hRw)⟩ (by dsimp only; omega) H locs ls hP hD hS (lv_sub hl [1, 2, 3, 0] rfl)
        · skip
          refine lv_aload_n hx hb dX0_sync_35 rfl (lv_at hl 0 rfl) ?_
          refine lv_iload_n hx hb dX0_sync_36 rfl (lv_at hl 2 rfl) ?_
          refine lv_iload_n hx hb dX0_sync_37 rfl (lv_at hl 3 rfl) ?_
          refine tr_callR (As := [.int (nI t), .int (nI i)]) (rest := []) S0 (tr_X_isKnown l D h cI cZ (tr_syn S f t i) w hRw hsy.1.1.1 hsy.1.1.2.2.1 t i ht (by omega)) 2 (lw_V q117 q119 qs6 q17 q120) (by decide +kernel) ⟨Nat.le_of_ble_eq_true rfl, Nat.le_of_ble_eq_true rfl⟩ hK hP hD hS hA rfl rfl rfl hl.1 rfl (Nat.le_of_ble_eq_true rfl) dX0_sync_38 ⟨Nat.le_of_ble_eq_true rfl, Nat.le_of_ble_eq_true rfl⟩ (fun r38 hw38 H locs hP hS => ?_)
          subst hw38
          refine tr_fneB (tgt := 50) hx hb dX0_sync_41 (by decide) (fun c41 => ?_) (fun c41 => ?_)
          · skip
            refine lv_iinc (v := (nI (i + 1))) (lv' := [(3, .int (nI (i + 1))), (0, .ref (h 0)), (1, .int (nI f)), (2, .int (nI t))]) hx hb dX0_sync_50 hl (k := 3) rfl (nI_inc _) (by decide) rfl (fun ls hl => ?_)
            refine lv_goto (tgt := 18) hx hb dX0_sync_53 (by decide) ?_
            exact ih (i + 1, w) ⟨by dsimp only; omega, (by show RepX (tr_syn S f t (i + 1)) w; have e : tr_syn S f t (i + 1) = tr_syn S f t i := if_neg (fun q => (by have := q.2; rw [c41] at this; cases this)); rw [e]; exact hRw)⟩ (by dsimp only; omega) H locs ls hP hD hS (lv_sub hl [1, 2, 3, 0] rfl)
          · skip
            obtain ⟨-, -, hnum, hcl⟩ := tr_synI_go hsy hI hf ht c23 c32 c41
            refine lv_aload_n hx hb dX0_sync_44 rfl (lv_at hl 0 rfl) ?_
            refine lv_iload_n hx hb dX0_sync_45 rfl (lv_at hl 2 rfl) ?_
            refine lv_iload_n hx hb dX0_sync_46 rfl (lv_at hl 3 rfl) ?_
            refine tr_callV (As := [.int (nI t), .int (nI i)]) (rest := []) S0 (tr_X_learn l D h cI cZ (tr_syn S f t i) w hRw hsy.1.1 t i ht (by omega) hnum hcl) 2 (lw_V q93 q95 qs2 q17 q96) (by decide +kernel) ⟨Nat.le_of_ble_eq_true rfl, Nat.le_of_ble_eq_true rfl⟩ hK hP hD hS hA rfl rfl rfl hl.1 rfl (Nat.le_of_ble_eq_true rfl) dX0_sync_47 ⟨Nat.le_of_ble_eq_true rfl, Nat.le_of_ble_eq_true rfl⟩ (fun u1 H locs hw47 hP hD hS => ?_)
            refine lv_iinc (v := (nI (i + 1))) (lv' := [(3, .int (nI (i + 1))), (0, .ref (h 0)), (1, .int (nI f)), (2, .int (nI t))]) hx hb dX0_sync_50 hl (k := 3) rfl (nI_inc _) (by decide) rfl (fun ls hl => ?_)
            refine lv_goto (tgt := 18) hx hb dX0_sync_53 (by decide) ?_
            exact ih (i + 1, u1) ⟨by dsimp only; omega, (by show RepX (tr_syn S f t (i + 1)) u1; have e : tr_syn S f t (i + 1) = tr_learn (tr_syn S f t i) t i := if_pos ⟨c32, c41⟩; rw [e]; exact hw47)⟩ (by dsimp only; omega) H locs ls hP hD hS (lv_sub hl [1, 2, 3, 0] rfl)
    · skip
      refine lv_iconst (v := (iI 0)) hx hb dX0_sync_14 (by decide +kernel) ?_
      exact tr_iret (wv := wX h cI cZ) (u := u) hx hb hret hlk hK hP hD hS dX0_sync_15 (⟨by rw [tr_synA_2 c11], by rw [tr_synA_2 c11]; exact hR⟩)
end
section
/-! X: alike (printed by gen/x_alike.py) -/
set_option maxRecDepth 100000
theorem tr_sk_len (S : TS) (r : Nat) : ∀ B, (tr_sk S r B).length ≤ B.length := by
  intro B
  induction B with
  | nil => exact Nat.le_refl _
  | cons b B ih =>
    cases h : S.tk r b with
    | true => rw [tr_sk_t B h, List.length_cons]; omega
    | false => rw [tr_sk_f B h]; exact Nat.le_refl _
theorem tr_sk_sub (S : TS) (r : Nat) : ∀ B x, x ∈ tr_sk S r B → x ∈ B := by
  intro B
  induction B with
  | nil => intro x h; exact h
  | cons b B ih =>
    intro x hx
    cases h : S.tk r b with
    | true => rw [tr_sk_t B h] at hx; exact List.mem_cons_of_mem _ (ih x hx)
    | false => rw [tr_sk_f B h] at hx; exact hx
theorem tr_sk_fil (S : TS) (r : Nat) : ∀ B, (tr_sk S r B).filter (fun c => !S.tk r c) = B.filter (fun c => !S.tk r c) := by
  intro B
  induction B with
  | nil => rfl
  | cons b B ih =>
    cases h : S.tk r b with
    | true => rw [tr_sk_t B h, ih, List.filter_cons_of_neg (by rw [h]; decide)]
    | false => rw [tr_sk_f B h]
theorem tr_sk_hd (S : TS) (r : Nat) : ∀ B x l, tr_sk S r B = x :: l → S.tk r x = false := by
  intro B
  induction B with
  | nil => intro x l h; cases h
  | cons b B ih =>
    intro x l e
    cases h : S.tk r b with
    | true => rw [tr_sk_t B h] at e; exact ih x l e
    | false =>
      rw [tr_sk_f B h] at e
      injection e with e1 e2
      rw [← e1]; exact h
theorem tr_sk_ch (S : TS) (r : Nat) (f : Nat → Int32) (b0 : Nat) : ∀ B v, tr_chain f b0 v B → ∃ v', tr_chain f b0 v' (tr_sk S r B) := by
  intro B
  induction B with
  | nil => intro v h; exact ⟨v, h⟩
  | cons b B ih =>
    intro v hv
    cases h : S.tk r b with
    | true => rw [tr_sk_t B h]; exact ih _ hv.2
    | false => rw [tr_sk_f B h]; exact ⟨v, hv⟩
set_option maxHeartbeats 4000000 in
theorem tr_X_alike (l : Launch) (D : va_G) (h : Nat → Nat) (cI cZ : ClassId) (S : TS) (u : XW) (hR : RepX S u) (hI : tr_Inv S) (x y : Int32) : tr_MR l yX0_alike cX0_alike 6 (some .int) 1 24 D tr_cl (tr_ty cI cZ) (wX h cI cZ) [.ref (h 0), .int x, .int y] u (fun z => z = tr_aliA S x y) := by
  refine tr_enterI RX0 rfl (by decide) (Nat.le_of_ble_eq_true rfl) ?_
  intro p e s m below meth c0 A ls S0 hret hlk hK hP hD hS hA hl
  have hx := S0.1
  have hb := S0.2.1
  have hl : lv_has ls 6 [(0, .ref (h 0)), (1, .int x), (2, .int y)] := hl
  refine lv_iload_n hx hb dX0_alike_0 rfl (lv_at hl 1 rfl) ?_
  refine tr_callS (As := [.int x]) (rest := []) S0 (tr_X_isReplica l x) 1 (lw_S q82 q83 q17 q84) (by decide +kernel) ⟨Nat.le_of_ble_eq_true rfl, Nat.le_of_ble_eq_true rfl⟩ hP hS hA rfl hl.1 rfl (Nat.le_of_ble_eq_true rfl) dX0_alike_1 ⟨Nat.le_of_ble_eq_true rfl, Nat.le_of_ble_eq_true rfl⟩ (fun r1 hw1 H locs hP hS => ?_)
  subst hw1
  refine tr_feqB (tgt := 14) hx hb dX0_alike_4 (by decide) (fun c4 => ?_) (fun c4 => ?_)
  · skip
    refine lv_iconst (v := (iI 0)) hx hb dX0_alike_14 (by decide +kernel) ?_
    exact tr_iret (wv := wX h cI cZ) (u := u) hx hb hret hlk hK hP hD hS dX0_alike_15 (⟨rfl, (tr_aliA_1 c4).symm⟩)
  · skip
    obtain ⟨a, ha, rfl⟩ := tr_ok_n c4
    refine lv_iload_n hx hb dX0_alike_7 rfl (lv_at hl 2 rfl) ?_
    refine tr_callS (As := [.int y]) (rest := []) S0 (tr_X_isReplica l y) 1 (lw_S q82 q83 q17 q84) (by decide +kernel) ⟨Nat.le_of_ble_eq_true rfl, Nat.le_of_ble_eq_true rfl⟩ hP hS hA rfl hl.1 rfl (Nat.le_of_ble_eq_true rfl) dX0_alike_8 ⟨Nat.le_of_ble_eq_true rfl, Nat.le_of_ble_eq_true rfl⟩ (fun r8 hw8 H locs hP hS => ?_)
    subst hw8
    refine tr_fneB (tgt := 16) hx hb dX0_alike_11 (by decide) (fun c11 => ?_) (fun c11 => ?_)
    · skip
      obtain ⟨b, hb0, rfl⟩ := tr_ok_n c11
      have hn48 := hI.1.1.1
      have hra := hI.1.rowlen ha
      have hrb := hI.1.rowlen hb0
      have hta := tr_tx_le S a
      have htb := tr_tx_le S b
      refine lv_aload_n hx hb dX0_alike_16 rfl (lv_at hl 0 rfl) ?_
      refine tr_xg (x := .ref (h 15)) S0 hK hP 15 (by decide) q42 rfl rfl dX0_alike_17 ?_
      refine lv_iload_n hx hb dX0_alike_20 rfl (lv_at hl 1 rfl) ?_
      refine tr_ald (v := (nI ((tr_tx S a).length))) hx hb hK hP 15 0 rfl rfl (by decide) (by omega) (hR.tl a ha) dX0_alike_21 ?_
      refine lv_aload_n hx hb dX0_alike_22 rfl (lv_at hl 0 rfl) ?_
      refine tr_xg (x := .ref (h 15)) S0 hK hP 15 (by decide) q42 rfl rfl dX0_alike_23 ?_
      refine lv_iload_n hx hb dX0_alike_26 rfl (lv_at hl 2 rfl) ?_
      refine tr_ald (v := (nI ((tr_tx S b).length))) hx hb hK hP 15 0 rfl rfl (by decide) (by omega) (hR.tl b hb0) dX0_alike_27 ?_
      refine tr_ceq (tgt := 33) hx hb dX0_alike_28 (by decide) (by omega) (by omega) (fun c28 => ?_) (fun c28 => ?_)
      · skip
        refine lv_aload_n hx hb dX0_alike_33 rfl (lv_at hl 0 rfl) ?_
        refine lv_iload_n hx hb dX0_alike_34 rfl (lv_at hl 1 rfl) ?_
        refine lv_aload_n hx hb dX0_alike_35 rfl (lv_at hl 0 rfl) ?_
        refine tr_xg (x := .ref (h 12)) S0 hK hP 12 (by decide) q39 rfl rfl dX0_alike_36 ?_
        refine lv_bipush (v := (nI 49)) hx hb dX0_alike_39 (by decide +kernel) ?_
        refine lv_iload_n hx hb dX0_alike_41 rfl (lv_at hl 1 rfl) ?_
        refine tr_imul (z := (nI (49 * a))) hx hb dX0_alike_42 (pk_mul _ _) ?_
        refine tr_ald (v := (iI (tr_hd (S.row a)))) hx hb hK hP 12 0 rfl rfl (by decide) (by omega) ((hR.fol a ha).rd) dX0_alike_43 ?_
        refine tr_callR (As := [.int (nI a), .int (iI (tr_hd (S.row a)))]) (rest := []) S0 (tr_X_shown l D h cI cZ S u hR a 0 (S.row a) ha (by omega) (fun z hz => hz) (hI.1.id a ha) (hR.fol a ha)) 2 (lw_V q145 q147 qs7 q17 q148) (by decide +kernel) ⟨Nat.le_of_ble_eq_true rfl, Nat.le_of_ble_eq_true rfl⟩ hK hP hD hS hA rfl rfl rfl hl.1 rfl (Nat.le_of_ble_eq_true rfl) dX0_alike_44 ⟨Nat.le_of_ble_eq_true rfl, Nat.le_of_ble_eq_true rfl⟩ (fun r44 hw44 H locs hP hS => ?_)
        subst hw44
        refine lv_istore_n (lv' := [(3, .int (iI (tr_hd (tr_sk S a (S.row a))))), (0, .ref (h 0)), (1, .int (nI a)), (2, .int (nI b))]) hx hb dX0_alike_47 rfl hl (by decide) rfl (fun ls hl => ?_)
        refine lv_aload_n hx hb dX0_alike_48 rfl (lv_at hl 1 rfl) ?_
        refine lv_iload_n hx hb dX0_alike_49 rfl (lv_at hl 3 rfl) ?_
        refine lv_aload_n hx hb dX0_alike_50 rfl (lv_at hl 1 rfl) ?_
        refine tr_xg (x := .ref (h 12)) S0 hK hP 12 (by decide) q39 rfl rfl dX0_alike_51 ?_
        refine lv_bipush (v := (nI 49)) hx hb dX0_alike_54 (by decide +kernel) ?_
        refine lv_iload_n hx hb dX0_alike_56 rfl (lv_at hl 3 rfl) ?_
        refine tr_imul (z := (nI (49 * b))) hx hb dX0_alike_57 (pk_mul _ _) ?_
        refine tr_ald (v := (iI (tr_hd (S.row b)))) hx hb hK hP 12 0 rfl rfl (by decide) (by omega) ((hR.fol b hb0).rd) dX0_alike_58 ?_
        refine tr_callR (As := [.int (nI b), .int (iI (tr_hd (S.row b)))]) (rest := []) S0 (tr_X_shown l D h cI cZ S u hR b 0 (S.row b) hb0 (by omega) (fun z hz => hz) (hI.1.id b hb0) (hR.fol b hb0)) 2 (lw_V q145 q147 qs7 q17 q148) (by decide +kernel) ⟨Nat.le_of_ble_eq_true rfl, Nat.le_of_ble_eq_true rfl⟩ hK hP hD hS hA rfl rfl rfl hl.1 rfl (Nat.le_of_ble_eq_true rfl) dX0_alike_59 ⟨Nat.le_of_ble_eq_true rfl, Nat.le_of_ble_eq_true rfl⟩ (fun r59 hw59 H locs hP hS => ?_)
        subst hw59
        refine lv_istore (lv' := [(4, .int (iI (tr_hd (tr_sk S b (S.row b))))), (3, .int (iI (tr_hd (tr_sk S a (S.row a))))), (0, .ref (h 0)), (1, .int (nI a)), (2, .int (nI b))]) hx hb dX0_alike_62 hl (by decide) rfl (fun ls hl => ?_)
        refine lv_iconst (v := (nI 0)) hx hb dX0_alike_64 (by decide +kernel) ?_
        refine lv_istore (lv' := [(5, .int (nI 0)), (4, .int (iI (tr_hd (tr_sk S b (S.row b))))), (3, .int (iI (tr_hd (tr_sk S a (S.row a))))), (0, .ref (h 0)), (1, .int (nI a)), (2, .int (nI b))]) hx hb dX0_alike_65 hl (by decide) rfl (fun ls hl => ?_)
        refine tr_loop (wv := wX h cI cZ) (τ := Nat × List Nat × List Nat) (lv := fun st => [(0, .ref (h 0)), (1, .int (nI a)), (2, .int (nI b)), (3, .int (iI (tr_hd st.2.1))), (4, .int (iI (tr_hd st.2.2))), (5, .int (nI st.1))]) (ww := fun _ => u) (I := fun st => st.1 + st.2.1.length ≤ 48 ∧ st.2.2.length ≤ 48 ∧ (∀ z, z ∈ st.2.1 → z ∈ S.row a) ∧ (∀ z, z ∈ st.2.2 → z ∈ S.row b) ∧ (∃ v, tr_chain (u.2 12) (49 * a) v st.2.1) ∧ (∃ v, tr_chain (u.2 12) (49 * b) v st.2.2) ∧ (∀ z l, st.2.1 = z :: l → S.tk a z = false) ∧ (∀ z l, st.2.2 = z :: l → S.tk b z = false) ∧ (st.2.1.filter (fun c => !S.tk a c)).length = (st.2.2.filter (fun c => !S.tk b c)).length ∧ ((tr_tx S a).map S.le = (tr_tx S b).map S.le ↔ (st.2.1.filter (fun c => !S.tk a c)).map S.le = (st.2.2.filter (fun c => !S.tk b c)).map S.le)) (μ := fun st => st.2.1.length) ?_ (0, tr_sk S a (S.row a), tr_sk S b (S.row b)) ⟨(by have := tr_sk_len S a (S.row a); dsimp only; omega), (by have := tr_sk_len S b (S.row b); dsimp only; omega), tr_sk_sub S a _, tr_sk_sub S b _, tr_sk_ch S a _ _ _ 0 (hR.fol a ha), tr_sk_ch S b _ _ _ 0 (hR.fol b hb0), tr_sk_hd S a _, tr_sk_hd S b _, (by dsimp only; rw [tr_sk_fil, tr_sk_fil]; exact c28), (by dsimp only; rw [tr_sk_fil, tr_sk_fil]; exact Iff.rfl)⟩ hP hD hS (lv_sub hl [3, 4, 5, 2, 1, 0] rfl)
        rintro ⟨i, Pa, Pb⟩ ⟨hi, hlb, hsa, hsb, ⟨va, hca⟩, ⟨vb, hcb⟩, hta, htb, hfl, hall⟩ ih H locs ls hP hD hS hl
        dsimp only at hi hlb hsa hsb hca hcb hta htb hfl hall
        cases Pa with
        | nil =>
          have hl : lv_has ls 6 [(0, .ref (h 0)), (1, .int (nI a)), (2, .int (nI b)), (3, .int (iI 0)), (4, .int (iI (tr_hd Pb))), (5, .int (nI i))] := hl
          have hd : (tr_tx S a).map S.le = (tr_tx S b).map S.le := by
            rw [hall]
            have h0 : Pb.filter (fun c => !S.tk b c) = [] := List.length_eq_zero_iff.mp (by rw [← hfl]; rfl)
            rw [h0]
            rfl
          rw [List.length_nil] at hi
          refine lv_iload hx hb dX0_alike_67 (lv_at hl 5 rfl) ?_
          refine lv_bipush (v := (nI 48)) hx hb dX0_alike_69 (by decide +kernel) ?_
          refine tr_cge (tgt := 147) hx hb dX0_alike_71 (by decide) (by omega) (by omega) (fun c71 => ?_) (fun c71 => ?_)
          · skip
            refine lv_iconst (v := (bI true)) hx hb dX0_alike_147 (by decide +kernel) ?_
            exact tr_iret (wv := wX h cI cZ) (u := u) hx hb hret hlk hK hP hD hS dX0_alike_148 (⟨rfl, by rw [tr_aliA_3 ha hb0, decide_eq_true hd]⟩)
          · skip
            refine lv_iload_n hx hb dX0_alike_74 rfl (lv_at hl 3 rfl) ?_
            refine tr_fltI (tgt := 147) hx hb dX0_alike_75 (by decide) (by omega) (fun c75 => ?_) (fun c75 => ?_)
            · skip
              refine lv_iconst (v := (bI true)) hx hb dX0_alike_147 (by decide +kernel) ?_
              exact tr_iret (wv := wX h cI cZ) (u := u) hx hb hret hlk hK hP hD hS dX0_alike_148 (⟨rfl, by rw [tr_aliA_3 ha hb0, decide_eq_true hd]⟩)
            · skip
              exact absurd rfl c75
        | cons x la =>
          have htx := hta x la rfl
          cases Pb with
          | nil =>
            rw [List.filter_cons_of_pos (by rw [htx]; rfl)] at hfl
            simp at hfl
          | cons y lb =>
            have hty := htb y lb rfl
            rw [List.filter_cons_of_pos (by rw [htx]; rfl), List.filter_cons_of_pos (by rw [hty]; rfl)] at hfl hall
            rw [List.map_cons, List.map_cons, List.cons.injEq] at hall
            rw [List.length_cons] at hi hlb
            simp only [List.length_cons, Nat.add_right_cancel_iff] at hfl
            have hxm := hsa x List.mem_cons_self
            have hym := hsb y List.mem_cons_self
            have hx1 := hI.1.rows a ha x hxm
            have hy1 := hI.1.rows b hb0 y hym
            have hn48 := hI.1.1.1
            have hsa2 : ∀ z, z ∈ la → z ∈ S.row a := fun z hz => hsa z (List.mem_cons_of_mem _ hz)
            have hsb2 : ∀ z, z ∈ lb → z ∈ S.row b := fun z hz => hsb z (List.mem_cons_of_mem _ hz)
            have hl : lv_has ls 6 [(0, .ref (h 0)), (1, .int (nI a)), (2, .int (nI b)), (3, .int (iI (x + 1))), (4, .int (iI (y + 1))), (5, .int (nI i))] := hl
            refine lv_iload hx hb dX0_alike_67 (lv_at hl 5 rfl) ?_
            refine lv_bipush (v := (nI 48)) hx hb dX0_alike_69 (by decide +kernel) ?_
            refine tr_cge (tgt := 147) hx hb dX0_alike_71 (by decide) (by omega) (by omega) (fun c71 => ?_) (fun c71 => ?_)
            · skip
              omega
            · skip
              refine lv_iload_n hx hb dX0_alike_74 rfl (lv_at hl 3 rfl) ?_
              refine tr_fltI (tgt := 147) hx hb dX0_alike_75 (by decide) (by omega) (fun c75 => ?_) (fun c75 => ?_)
              · skip
                omega
              · skip
                refine lv_iload hx hb dX0_alike_78 (lv_at hl 4 rfl) ?_
                refine tr_fltI (tgt := 147) hx hb dX0_alike_80 (by decide) (by omega) (fun c80 => ?_) (fun c80 => ?_)
                · skip
                  omega
                · skip
                  rw [iI_s, iI_s] at hl
                  refine lv_aload_n hx hb dX0_alike_83 rfl (lv_at hl 0 rfl) ?_
                  refine tr_xg (x := .ref (h 4)) S0 hK hP 4 (by decide) q31 rfl rfl dX0_alike_84 ?_
                  refine lv_iload_n hx hb dX0_alike_87 rfl (lv_at hl 3 rfl) ?_
                  refine tr_ald (v := ((S.le x))) hx hb hK hP 4 0 rfl rfl (by decide) (by omega) (hR.le x hx1.1 hx1.2) dX0_alike_88 ?_
                  refine lv_aload_n hx hb dX0_alike_89 rfl (lv_at hl 0 rfl) ?_
                  refine tr_xg (x := .ref (h 4)) S0 hK hP 4 (by decide) q31 rfl rfl dX0_alike_90 ?_
                  refine lv_iload hx hb dX0_alike_93 (lv_at hl 4 rfl) ?_
                  refine tr_ald (v := ((S.le y))) hx hb hK hP 4 0 rfl rfl (by decide) (by omega) (hR.le y hy1.1 hy1.2) dX0_alike_95 ?_
                  refine lv_icmp_eq (tgt := 101) hx hb dX0_alike_96 (by decide) (fun c96 => ?_) (fun c96 => ?_)
                  · skip
                    refine lv_aload_n hx hb dX0_alike_101 rfl (lv_at hl 0 rfl) ?_
                    refine lv_iload_n hx hb dX0_alike_102 rfl (lv_at hl 1 rfl) ?_
                    refine lv_aload_n hx hb dX0_alike_103 rfl (lv_at hl 0 rfl) ?_
                    refine tr_xg (x := .ref (h 12)) S0 hK hP 12 (by decide) q39 rfl rfl dX0_alike_104 ?_
                    refine lv_bipush (v := (nI 49)) hx hb dX0_alike_107 (by decide +kernel) ?_
                    refine lv_iload_n hx hb dX0_alike_109 rfl (lv_at hl 1 rfl) ?_
                    refine tr_imul (z := (nI (49 * a))) hx hb dX0_alike_110 (pk_mul _ _) ?_
                    refine lv_iconst (v := (nI 1)) hx hb dX0_alike_111 (by decide +kernel) ?_
                    refine tr_iadd (z := (nI (49 * a + 1))) hx hb dX0_alike_112 (nI_add _ _) ?_
                    refine lv_iload_n hx hb dX0_alike_113 rfl (lv_at hl 3 rfl) ?_
                    refine tr_iadd (z := (nI (49 * a + (x + 1)))) hx hb dX0_alike_114 (nI_add1 _ _) ?_
                    refine tr_ald (v := (iI (tr_hd la))) hx hb hK hP 12 0 rfl rfl (by decide) (by omega) (hca.next.rd) dX0_alike_115 ?_
                    refine tr_callR (As := [.int (nI a), .int (iI (tr_hd la))]) (rest := []) S0 (tr_X_shown l D h cI cZ S u hR a (x + 1) la ha (by omega) hsa2 (hI.1.id a ha) hca.next) 2 (lw_V q145 q147 qs7 q17 q148) (by decide +kernel) ⟨Nat.le_of_ble_eq_true rfl, Nat.le_of_ble_eq_true rfl⟩ hK hP hD hS hA rfl rfl rfl hl.1 rfl (Nat.le_of_ble_eq_true rfl) dX0_alike_116 ⟨Nat.le_of_ble_eq_true rfl, Nat.le_of_ble_eq_true rfl⟩ (fun r116 hw116 H locs hP hS => ?_)
                    subst hw116
                    refine lv_istore_n (lv' := [(3, .int (iI (tr_hd (tr_sk S a la)))), (0, .ref (h 0)), (1, .int (nI a)), (2, .int (nI b)), (4, .int (nI y)), (5, .int (nI i))]) hx hb dX0_alike_119 rfl hl (by decide) rfl (fun ls hl => ?_)
                    refine lv_aload_n hx hb dX0_alike_120 rfl (lv_at hl 1 rfl) ?_
                    refine lv_iload_n hx hb dX0_alike_121 rfl (lv_at hl 3 rfl) ?_
                    refine lv_aload_n hx hb dX0_alike_122 rfl (lv_at hl 1 rfl) ?_
                    refine tr_xg (x := .ref (h 12)) S0 hK hP 12 (by decide) q39 rfl rfl dX0_alike_123 ?_
                    refine lv_bipush (v := (nI 49)) hx hb dX0_alike_126 (by decide +kernel) ?_
                    refine lv_iload_n hx hb dX0_alike_128 rfl (lv_at hl 3 rfl) ?_
                    refine tr_imul (z := (nI (49 * b))) hx hb dX0_alike_129 (pk_mul _ _) ?_
                    refine lv_iconst (v := (nI 1)) hx hb dX0_alike_130 (by decide +kernel) ?_
                    refine tr_iadd (z := (nI (49 * b + 1))) hx hb dX0_alike_131 (nI_add _ _) ?_
                    refine lv_iload hx hb dX0_alike_132 (lv_at hl 4 rfl) ?_
                    refine tr_iadd (z := (nI (49 * b + (y + 1)))) hx hb dX0_alike_134 (nI_add1 _ _) ?_
                    refine tr_ald (v := (iI (tr_hd lb))) hx hb hK hP 12 0 rfl rfl (by decide) (by omega) (hcb.next.rd) dX0_alike_135 ?_
                    refine tr_callR (As := [.int (nI b), .int (iI (tr_hd lb))]) (rest := []) S0 (tr_X_shown l D h cI cZ S u hR b (y + 1) lb hb0 (by omega) hsb2 (hI.1.id b hb0) hcb.next) 2 (lw_V q145 q147 qs7 q17 q148) (by decide +kernel) ⟨Nat.le_of_ble_eq_true rfl, Nat.le_of_ble_eq_true rfl⟩ hK hP hD hS hA rfl rfl rfl hl.1 rfl (Nat.le_of_ble_eq_true rfl) dX0_alike_136 ⟨Nat.le_of_ble_eq_true rfl, Nat.le_of_ble_eq_true rfl⟩ (fun r136 hw136 H locs hP hS => ?_)
                    subst hw136
                    refine lv_istore (lv' := [(4, .int (iI (tr_hd (tr_sk S b lb)))), (3, .int (iI (tr_hd (tr_sk S a la)))), (0, .ref (h 0)), (1, .int (nI a)), (2, .int (nI b)), (5, .int (nI i))]) hx hb dX0_alike_139 hl (by decide) rfl (fun ls hl => ?_)
                    refine lv_iinc (v := (nI (i + 1))) (lv' := [(5, .int (nI (i + 1))), (4, .int (iI (tr_hd (tr_sk S b lb)))), (3, .int (iI (tr_hd (tr_sk S a la)))), (0, .ref (h 0)), (1, .int (nI a)), (2, .int (nI b))]) hx hb dX0_alike_141 hl (k := 5) rfl (nI_inc _) (by decide) rfl (fun ls hl => ?_)
                    refine lv_goto (tgt := 67) hx hb dX0_alike_144 (by decide) ?_
                    exact ih (i + 1, tr_sk S a la, tr_sk S b lb) ⟨(by have := tr_sk_len S a la; dsimp only; omega), (by have := tr_sk_len S b lb; dsimp only; omega), (fun z hz => hsa2 z (tr_sk_sub S a _ z hz)), (fun z hz => hsb2 z (tr_sk_sub S b _ z hz)), tr_sk_ch S a _ _ _ _ hca.next, tr_sk_ch S b _ _ _ _ hcb.next, tr_sk_hd S a _, tr_sk_hd S b _, (by dsimp only; rw [tr_sk_fil, tr_sk_fil]; exact hfl), (by dsimp only; rw [tr_sk_fil, tr_sk_fil, hall]; exact ⟨fun q => q.2, fun q => ⟨c96, q⟩⟩)⟩ (by have := tr_sk_len S a la; dsimp only; rw [List.length_cons]; omega) H locs ls hP hD hS (lv_sub hl [3, 4, 5, 2, 1, 0] rfl)
                  · skip
                    refine lv_iconst (v := (bI false)) hx hb dX0_alike_99 (by decide +kernel) ?_
                    exact tr_iret (wv := wX h cI cZ) (u := u) hx hb hret hlk hK hP hD hS dX0_alike_100 (⟨rfl, by rw [tr_aliA_3 ha hb0, decide_eq_false (fun q => c96 (hall.mp q).1)]⟩)
      · skip
        refine lv_iconst (v := (bI false)) hx hb dX0_alike_31 (by decide +kernel) ?_
        exact tr_iret (wv := wX h cI cZ) (u := u) hx hb hret hlk hK hP hD hS dX0_alike_32 (⟨rfl, by rw [tr_aliA_3 ha hb0, decide_eq_false (fun q => c28 (by have := congrArg List.length q; rwa [List.length_map, List.length_map] at this))]⟩)
    · skip
      refine lv_iconst (v := (iI 0)) hx hb dX0_alike_14 (by decide +kernel) ?_
      exact tr_iret (wv := wX h cI cZ) (u := u) hx hb hret hlk hK hP hD hS dX0_alike_15 (⟨rfl, (tr_aliA_2 c11).symm⟩)
end
section
/-! PURE for M: steps of its loops, RepM under its updates -/
section TRT
variable {l : Launch} {p : Program} {e : Env} {R : Room} {s : State} {m : MethodId} {args : Array Value} {below : List Frame} {meth : Method} {c : Code} {H : Heap} {locs : List Loc} {cells slots pc : Nat} {Q : State → Prop} {ls : Array Slot} {rest : List Value}
/-- the number on top, written otherwise -/
theorem tr_topv {x y : Int32} (h : x = y) (k : W p l e R s m args below meth c H locs cells slots Q (F0 m pc ls (.int y :: rest))) : W p l e R s m args below meth c H locs cells slots Q (F0 m pc ls (.int x :: rest)) := by
  rw [h]
  exact k
end TRT
section TRF
variable {pa ky : Nat → Nat} {K : Nat → Prop} {v b x y i : Nat}
theorem tr_fol_0 : tr_fol pa ky (fun c => c < 0 ∧ K c) v b 0 := Or.inl ⟨rfl, fun c h => absurd h.1 (by omega)⟩
theorem tr_fol_n {n : Nat} (h : tr_fol pa ky (fun c => c < n ∧ K c) v b x) (hK : ∀ c, K c → c < n) : tr_fol pa ky K v b x := by
  rcases h with ⟨e, h⟩ | ⟨y, e, h1, h2, h3, h4⟩
  · exact Or.inl ⟨e, fun c hc => h c ⟨hK c hc, hc⟩⟩
  · exact Or.inr ⟨y, e, h1.2, h2, h3, fun c hc => h4 c ⟨hK c hc, hc⟩⟩
theorem tr_fol_no (h : tr_fol pa ky (fun c => c < i ∧ K c) v b x) (hn : ¬ (K i ∧ pa i = v ∧ (b = 0 ∨ ky i < ky (b - 1)))) : tr_fol pa ky (fun c => c < i + 1 ∧ K c) v b x := by
  have two : ∀ c, c < i + 1 → c < i ∨ c = i := fun c hc => by omega
  rcases h with ⟨e, h⟩ | ⟨y, e, h1, h2, h3, h4⟩
  · refine Or.inl ⟨e, fun c hc hp hq => ?_⟩
    rcases two c hc.1 with q | q
    · exact h c ⟨q, hc.2⟩ hp hq
    · subst q; exact hn ⟨hc.2, hp, hq⟩
  · refine Or.inr ⟨y, e, ⟨by have := h1.1; omega, h1.2⟩, h2, h3, fun c hc hp hq => ?_⟩
    rcases two c hc.1 with q | q
    · exact h4 c ⟨q, hc.2⟩ hp hq
    · subst q; exact absurd ⟨hc.2, hp, hq⟩ hn
theorem tr_fol_first (h : tr_fol pa ky (fun c => c < i ∧ K c) v b 0) (h1 : K i) (h2 : pa i = v) (h3 : b = 0 ∨ ky i < ky (b - 1)) : tr_fol pa ky (fun c => c < i + 1 ∧ K c) v b (i + 1) := by
  refine Or.inr ⟨i, rfl, ⟨by omega, h1⟩, h2, h3, fun c hc hp hq => ?_⟩
  by_cases e : c = i
  · rw [e]; exact Nat.le_refl _
  · rcases h with ⟨-, h⟩ | ⟨y, e2, -⟩
    · exact absurd hq (h c ⟨by have := hc.1; omega, hc.2⟩ hp)
    · omega
theorem tr_fol_more (h : tr_fol pa ky (fun c => c < i ∧ K c) v b (y + 1)) (h1 : K i) (h2 : pa i = v) (h3 : b = 0 ∨ ky i < ky (b - 1)) (hg : ky y < ky i) : tr_fol pa ky (fun c => c < i + 1 ∧ K c) v b (i + 1) := by
  refine Or.inr ⟨i, rfl, ⟨by omega, h1⟩, h2, h3, fun c hc hp hq => ?_⟩
  by_cases e : c = i
  · rw [e]; exact Nat.le_refl _
  · rcases h with ⟨e2, -⟩ | ⟨y', e2, -, -, -, h4⟩
    · omega
    · have : y = y' := by omega
      subst this
      have := h4 c ⟨by have := hc.1; omega, hc.2⟩ hp hq
      omega
theorem tr_fol_less (h : tr_fol pa ky (fun c => c < i ∧ K c) v b (y + 1)) (hg : ¬ ky y < ky i) : tr_fol pa ky (fun c => c < i + 1 ∧ K c) v b (y + 1) := by
  rcases h with ⟨e2, -⟩ | ⟨y', e2, q1, q2, q3, h4⟩
  · omega
  · have : y = y' := by omega
    subst this
    refine Or.inr ⟨y, rfl, ⟨by have := q1.1; omega, q1.2⟩, q2, q3, fun c hc hp hq => ?_⟩
    by_cases e : c = i
    · rw [e]; omega
    · exact h4 c ⟨by have := hc.1; omega, hc.2⟩ hp hq
theorem tr_fol_K (h : tr_fol pa ky K v b (y + 1)) : K y := by
  rcases h with ⟨e, -⟩ | ⟨y', e, h1, -⟩
  · omega
  · have : y = y' := by omega
    rw [this]; exact h1
end TRF
theorem RepM.scratch {S : TS} {v w : MW} (h : RepM S v) (h0 : w.1 = v.1) (h1 : ∀ k, k < 7 → w.2.2 k = v.2.2 k) : RepM S w := by
  refine ⟨by rw [h0]; exact h.made, ?_, ?_, ?_, ?_, ?_, ?_, ?_⟩
  · rw [h1 1 (by decide)]; exact h.og
  · rw [h1 2 (by decide)]; exact h.ins
  · rw [h1 3 (by decide)]; exact h.le
  · rw [h1 4 (by decide)]; exact h.pa
  · rw [h1 5 (by decide)]; exact h.st
  · rw [h1 6 (by decide)]; exact h.kn
  · rw [h1 6 (by decide)]; exact h.kz
/-- cells of the change to come may be written -/
theorem RepM.ahead {S : TS} {v w : MW} (h : RepM S v) (h0 : w.1 = v.1) (h1 : ∀ k, k < 6 → ∀ c, c < S.n → w.2.2 k c = v.2.2 k c) (h6 : w.2.2 6 = v.2.2 6) : RepM S w := by
  refine ⟨by rw [h0]; exact h.made, fun c hc => ?_, fun c hc => ?_, fun c hc hi => ?_, fun c hc => ?_, fun c hc hi => ?_, ?_, ?_⟩
  · rw [h1 1 (by decide) c hc]; exact h.og c hc
  · rw [h1 2 (by decide) c hc]; exact h.ins c hc
  · rw [h1 3 (by decide) c hc]; exact h.le c hc hi
  · rw [h1 4 (by decide) c hc]; exact h.pa c hc
  · rw [h1 5 (by decide) c hc]; exact h.st c hc hi
  · rw [h6]; exact h.kn
  · rw [h6]; exact h.kz
/-- what M knows, when the replica t has learnt -/
theorem tr_learn_knb {S : TS} {r c : Nat} (hk : tr_num S c = S.kv r (S.og c) + 1) {d : Nat} (hd : d ≠ c) : tr_kn (tr_learn S r c) r d = tr_kn S r d := by
  have h := tr_learn_kn hk d
  cases h1 : tr_kn S r d with
  | true => exact h.mpr (Or.inl h1)
  | false =>
    cases h2 : tr_kn (tr_learn S r c) r d with
    | false => rfl
    | true =>
      rcases h.mp h2 with q | q
      · rw [h1] at q; cases q
      · exact absurd q hd
theorem RepM.learn {S : TS} {v w : MW} {r c : Nat} (h : RepM S v) (hr : r < 3) (hc : c < S.n) (hn : S.n ≤ 48) (hk : tr_num S c = S.kv r (S.og c) + 1) (h0 : w.1 = v.1) (h1 : ∀ k, k < 6 → w.2.2 k = v.2.2 k) (h6 : w.2.2 6 = upd (v.2.2 6) (48 * r + c) (bI true)) : RepM (tr_learn S r c) w := by
  unfold RepM
  rw [tr_learn_n, tr_learn_og, tr_learn_ins, tr_learn_le, tr_learn_pa, tr_learn_st]
  refine ⟨by rw [h0]; exact h.made, ?_, ?_, ?_, ?_, ?_, ?_, ?_⟩
  · rw [h1 1 (by decide)]; exact h.og
  · rw [h1 2 (by decide)]; exact h.ins
  · rw [h1 3 (by decide)]; exact h.le
  · rw [h1 4 (by decide)]; exact h.pa
  · rw [h1 5 (by decide)]; exact h.st
  · intro r' hr' d hd
    rw [h6]
    by_cases e : r' = r
    · subst e
      by_cases e2 : d = c
      · subst e2
        rw [tr_u_s, (tr_learn_kn hk d).mpr (Or.inr rfl)]
      · rw [tr_u_n (by omega), tr_learn_knb hk e2]
        exact h.kn r' hr' d hd
    · rw [tr_u_n (by omega), tr_learn_kn_ne S e]
      exact h.kn r' hr' d hd
  · intro r' hr' d hd hd2
    rw [h6, tr_u_n (by omega)]
    exact h.kz r' hr' d hd hd2
theorem RepM.make {S : TS} {v w : MW} {r a t : Nat} {b : Bool} {x : Int32} (h : RepM S v) (hI : tr_Inv S) (hr : r < 3) (hn : S.n < 48) (h0 : w.1 = nI (S.n + 1))
    (h1 : w.2.2 1 = upd (v.2.2 1) S.n (nI r)) (h2 : w.2.2 2 = upd (v.2.2 2) S.n (bI b)) (h3 : w.2.2 3 = upd (v.2.2 3) S.n x) (h4 : w.2.2 4 = upd (v.2.2 4) S.n (iI a)) (h5 : w.2.2 5 = upd (v.2.2 5) S.n (nI t)) (h6 : w.2.2 6 = upd (v.2.2 6) (48 * r + S.n) (bI true)) : RepM (tr_learn (tr_new S r b a x t) r S.n) w := by
  have hk : tr_num (tr_new S r b a x t) S.n = (tr_new S r b a x t).kv r ((tr_new S r b a x t).og S.n) + 1 := tr_new_next hI.2 hr
  have two : ∀ c, c < S.n + 1 → c < S.n ∨ c = S.n := fun c hc => by omega
  unfold RepM
  rw [tr_learn_n, tr_learn_og, tr_learn_ins, tr_learn_le, tr_learn_pa, tr_learn_st]
  refine ⟨h0, fun c hc => ?_, fun c hc => ?_, fun c hc hi => ?_, fun c hc => ?_, fun c hc hi => ?_, fun r' hr' c hc => ?_, fun r' hr' c hc hc2 => ?_⟩
  · rw [h1]
    rcases two c hc with q | q
    · rw [tr_new_og q, tr_u_n (by omega)]; exact h.og c q
    · subst q; rw [tr_new_og_n, tr_u_s]
  · rw [h2]
    rcases two c hc with q | q
    · rw [tr_new_ins q, tr_u_n (by omega)]; exact h.ins c q
    · subst q; rw [tr_new_ins_n, tr_u_s]
  · rw [h3]
    rcases two c hc with q | q
    · rw [tr_new_ins q] at hi
      rw [tr_new_le q, tr_u_n (by omega)]; exact h.le c q hi
    · subst q; rw [tr_new_le_n, tr_u_s]
  · rw [h4]
    rcases two c hc with q | q
    · rw [tr_new_pa q, tr_u_n (by omega)]; exact h.pa c q
    · subst q; rw [tr_new_pa_n, tr_u_s]
  · rw [h5]
    rcases two c hc with q | q
    · rw [tr_new_ins q] at hi
      rw [tr_new_st q, tr_u_n (by omega)]; exact h.st c q hi
    · subst q; rw [tr_new_st_n, tr_u_s]
  · rw [h6]
    rcases two c hc with q | q
    · rw [tr_u_n (by omega)]
      have e : tr_kn (tr_learn (tr_new S r b a x t) r S.n) r' c = tr_kn S r' c := by
        by_cases e : r' = r
        · subst e
          rw [tr_learn_knb hk (by omega), tr_new_kn q]
        · rw [tr_learn_kn_ne _ e, tr_new_kn q]
      rw [e]
      exact h.kn r' hr' c q
    · subst q
      by_cases e : r' = r
      · subst e
        rw [tr_u_s, (tr_learn_kn hk S.n).mpr (Or.inr rfl)]
      · rw [tr_u_n (by omega), tr_learn_kn_ne _ e, tr_new_kn_n hI.1.2.2.1 hr hr']
        exact h.kz r' hr' S.n (Nat.le_refl _) hn
  · have hc3 : S.n + 1 ≤ c := hc
    rw [h6, tr_u_n (by omega)]
    exact h.kz r' hr' c (by omega) hc2
end
section
/-! M: bad, inRow, greater, following, gone, next, greatest (printed by gen/m_leaf.py) -/
set_option maxRecDepth 100000
set_option maxHeartbeats 4000000 in
theorem tr_M_bad (l : Launch) (x : Int32) : tr_MS l yX1_bad cX1_bad 1 (some .boolean) 0 0 [.int x] (fun z => z = bI (!tr_ok x)) := by
  refine tr_enterS RX1 rfl (by decide) (Nat.le_of_ble_eq_true rfl) ?_
  intro p e s m below meth c0 A ls S0 hret hlk hS hl
  have hx := S0.1
  have hb := S0.2.1
  have hl : lv_has ls 1 [(0, .int x)] := hl
  refine lv_iload_n hx hb dX1_bad_0 rfl (lv_at hl 0 rfl) ?_
  refine lv_if_lt (tgt := 9) hx hb dX1_bad_1 (by decide) (fun c1 => ?_) (fun c1 => ?_)
  · skip
    refine lv_iconst (v := (bI true)) hx hb dX1_bad_9 (by decide +kernel) ?_
    refine lv_goto (tgt := 14) hx hb dX1_bad_10 (by decide) ?_
    exact tr_sret hx hb hret (bI_narrow _) hlk hS dX1_bad_14 (by rw [tr_ok_f c1]; rfl)
  · skip
    refine lv_iload_n hx hb dX1_bad_4 rfl (lv_at hl 0 rfl) ?_
    refine lv_iconst (v := 2) hx hb dX1_bad_5 (by decide +kernel) ?_
    refine lv_icmp_le (tgt := 13) hx hb dX1_bad_6 (by decide) (fun c6 => ?_) (fun c6 => ?_)
    · skip
      refine lv_iconst (v := (bI false)) hx hb dX1_bad_13 (by decide +kernel) ?_
      exact tr_sret hx hb hret (bI_narrow _) hlk hS dX1_bad_14 (by rw [tr_ok_t c1 (Int32.not_lt.mpr c6)]; rfl)
    · skip
      refine lv_iconst (v := (bI true)) hx hb dX1_bad_9 (by decide +kernel) ?_
      refine lv_goto (tgt := 14) hx hb dX1_bad_10 (by decide) ?_
      exact tr_sret hx hb hret (bI_narrow _) hlk hS dX1_bad_14 (by rw [tr_ok_g (Int32.not_le.mp c6)]; rfl)

set_option maxHeartbeats 4000000 in
theorem tr_M_inRow (l : Launch) (D : va_G) (h : Nat → Nat) (cI cZ : ClassId) (S : TS) (v : MW) (hR : RepM S v) (hn : S.n ≤ 48) (r c : Nat) (hr : r < 3) (hc : c < S.n) : tr_MR l yX1_inRow cX1_inRow 3 (some .boolean) 0 0 D tr_cl (tr_ty cI cZ) (wM h cI cZ) [.ref (h 0), .int (nI r), .int (nI c)] v (fun z => z = bI (tr_kn S r c && S.ins c)) := by
  refine tr_enterI RX1 rfl (by decide) (Nat.le_of_ble_eq_true rfl) ?_
  intro p e s m below meth c0 A ls S0 hret hlk hK hP hD hS hA hl
  have hx := S0.1
  have hb := S0.2.1
  have hl : lv_has ls 3 [(0, .ref (h 0)), (1, .int (nI r)), (2, .int (nI c))] := hl
  refine lv_aload_n hx hb dX1_inRow_0 rfl (lv_at hl 0 rfl) ?_
  refine tr_mg (x := .ref (h 6)) S0 hK hP 6 (by decide) q161 rfl rfl dX1_inRow_1 ?_
  refine lv_bipush (v := (nI 48)) hx hb dX1_inRow_4 (by decide +kernel) ?_
  refine lv_iload_n hx hb dX1_inRow_6 rfl (lv_at hl 1 rfl) ?_
  refine tr_imul (z := (nI (48 * r))) hx hb dX1_inRow_7 (pk_mul _ _) ?_
  refine lv_iload_n hx hb dX1_inRow_8 rfl (lv_at hl 2 rfl) ?_
  refine tr_iadd (z := (nI (48 * r + c))) hx hb dX1_inRow_9 (nI_add _ _) ?_
  refine tr_zld (v := (bI (tr_kn S r c))) hx hb hK hP 6 1 rfl rfl (by decide) (by omega) (hR.kn r hr c hc) dX1_inRow_10 ?_
  refine tr_feqB (tgt := 27) hx hb dX1_inRow_11 (by decide) (fun c11 => ?_) (fun c11 => ?_)
  · skip
    refine lv_iconst (v := (bI false)) hx hb dX1_inRow_27 (by decide +kernel) ?_
    exact tr_zret (wv := wM h cI cZ) (u := v) hx hb hret (bI_narrow _) hlk hK hP hD hS dX1_inRow_28 (⟨rfl, by rw [c11]; rfl⟩)
  · skip
    refine lv_aload_n hx hb dX1_inRow_14 rfl (lv_at hl 0 rfl) ?_
    refine tr_mg (x := .ref (h 2)) S0 hK hP 2 (by decide) q157 rfl rfl dX1_inRow_15 ?_
    refine lv_iload_n hx hb dX1_inRow_18 rfl (lv_at hl 2 rfl) ?_
    refine tr_zld (v := (bI (S.ins c))) hx hb hK hP 2 1 rfl rfl (by decide) (by omega) (hR.ins c hc) dX1_inRow_19 ?_
    refine tr_feqB (tgt := 27) hx hb dX1_inRow_20 (by decide) (fun c20 => ?_) (fun c20 => ?_)
    · skip
      refine lv_iconst (v := (bI false)) hx hb dX1_inRow_27 (by decide +kernel) ?_
      exact tr_zret (wv := wM h cI cZ) (u := v) hx hb hret (bI_narrow _) hlk hK hP hD hS dX1_inRow_28 (⟨rfl, by rw [c11, c20]; rfl⟩)
    · skip
      refine lv_iconst (v := (bI true)) hx hb dX1_inRow_23 (by decide +kernel) ?_
      refine lv_goto (tgt := 28) hx hb dX1_inRow_24 (by decide) ?_
      exact tr_zret (wv := wM h cI cZ) (u := v) hx hb hret (bI_narrow _) hlk hK hP hD hS dX1_inRow_28 (⟨rfl, by rw [c11, c20]; rfl⟩)

set_option maxHeartbeats 4000000 in
theorem tr_M_greater (l : Launch) (D : va_G) (h : Nat → Nat) (cI cZ : ClassId) (S : TS) (v : MW) (hR : RepM S v) (h1 : tr_I1 S) (c d : Nat) (hc : c < S.n) (hd : d < S.n) (ic : S.ins c = true) (id : S.ins d = true) : tr_MR l yX1_greater cX1_greater 3 (some .boolean) 0 0 D tr_cl (tr_ty cI cZ) (wM h cI cZ) [.ref (h 0), .int (nI c), .int (nI d)] v (fun z => z = bI (decide (tr_ky S d < tr_ky S c))) := by
  refine tr_enterI RX1 rfl (by decide) (Nat.le_of_ble_eq_true rfl) ?_
  intro p e s m below meth c0 A ls S0 hret hlk hK hP hD hS hA hl
  have hx := S0.1
  have hb := S0.2.1
  have hl : lv_has ls 3 [(0, .ref (h 0)), (1, .int (nI c)), (2, .int (nI d))] := hl
  have hn := h1.1
  have oc := (h1.2 c hc).1
  have od := (h1.2 d hd).1
  have sc := ((h1.2 c hc).2.2.1 ic).2
  have sd := ((h1.2 d hd).2.2.1 id).2
  refine lv_aload_n hx hb dX1_greater_0 rfl (lv_at hl 0 rfl) ?_
  refine tr_mg (x := .ref (h 5)) S0 hK hP 5 (by decide) q160 rfl rfl dX1_greater_1 ?_
  refine lv_iload_n hx hb dX1_greater_4 rfl (lv_at hl 1 rfl) ?_
  refine tr_ald (v := (nI (S.st c))) hx hb hK hP 5 0 rfl rfl (by decide) (by omega) (hR.st c hc ic) dX1_greater_5 ?_
  refine lv_aload_n hx hb dX1_greater_6 rfl (lv_at hl 0 rfl) ?_
  refine tr_mg (x := .ref (h 5)) S0 hK hP 5 (by decide) q160 rfl rfl dX1_greater_7 ?_
  refine lv_iload_n hx hb dX1_greater_10 rfl (lv_at hl 2 rfl) ?_
  refine tr_ald (v := (nI (S.st d))) hx hb hK hP 5 0 rfl rfl (by decide) (by omega) (hR.st d hd id) dX1_greater_11 ?_
  refine tr_cgt (tgt := 45) hx hb dX1_greater_12 (by decide) (by omega) (by omega) (fun c12 => ?_) (fun c12 => ?_)
  · skip
    refine lv_iconst (v := (bI true)) hx hb dX1_greater_45 (by decide +kernel) ?_
    refine lv_goto (tgt := 50) hx hb dX1_greater_46 (by decide) ?_
    exact tr_zret (wv := wM h cI cZ) (u := v) hx hb hret (bI_narrow _) hlk hK hP hD hS dX1_greater_50 (⟨rfl, by rw [decide_eq_true (by unfold tr_ky; omega)]⟩)
  · skip
    refine lv_aload_n hx hb dX1_greater_15 rfl (lv_at hl 0 rfl) ?_
    refine tr_mg (x := .ref (h 5)) S0 hK hP 5 (by decide) q160 rfl rfl dX1_greater_16 ?_
    refine lv_iload_n hx hb dX1_greater_19 rfl (lv_at hl 1 rfl) ?_
    refine tr_ald (v := (nI (S.st c))) hx hb hK hP 5 0 rfl rfl (by decide) (by omega) (hR.st c hc ic) dX1_greater_20 ?_
    refine lv_aload_n hx hb dX1_greater_21 rfl (lv_at hl 0 rfl) ?_
    refine tr_mg (x := .ref (h 5)) S0 hK hP 5 (by decide) q160 rfl rfl dX1_greater_22 ?_
    refine lv_iload_n hx hb dX1_greater_25 rfl (lv_at hl 2 rfl) ?_
    refine tr_ald (v := (nI (S.st d))) hx hb hK hP 5 0 rfl rfl (by decide) (by omega) (hR.st d hd id) dX1_greater_26 ?_
    refine tr_cne (tgt := 49) hx hb dX1_greater_27 (by decide) (by omega) (by omega) (fun c27 => ?_) (fun c27 => ?_)
    · skip
      refine lv_iconst (v := (bI false)) hx hb dX1_greater_49 (by decide +kernel) ?_
      exact tr_zret (wv := wM h cI cZ) (u := v) hx hb hret (bI_narrow _) hlk hK hP hD hS dX1_greater_50 (⟨rfl, by rw [decide_eq_false (by unfold tr_ky; omega)]⟩)
    · skip
      refine lv_aload_n hx hb dX1_greater_30 rfl (lv_at hl 0 rfl) ?_
      refine tr_mg (x := .ref (h 1)) S0 hK hP 1 (by decide) q156 rfl rfl dX1_greater_31 ?_
      refine lv_iload_n hx hb dX1_greater_34 rfl (lv_at hl 1 rfl) ?_
      refine tr_ald (v := (nI (S.og c))) hx hb hK hP 1 0 rfl rfl (by decide) (by omega) (hR.og c hc) dX1_greater_35 ?_
      refine lv_aload_n hx hb dX1_greater_36 rfl (lv_at hl 0 rfl) ?_
      refine tr_mg (x := .ref (h 1)) S0 hK hP 1 (by decide) q156 rfl rfl dX1_greater_37 ?_
      refine lv_iload_n hx hb dX1_greater_40 rfl (lv_at hl 2 rfl) ?_
      refine tr_ald (v := (nI (S.og d))) hx hb hK hP 1 0 rfl rfl (by decide) (by omega) (hR.og d hd) dX1_greater_41 ?_
      refine tr_cle (tgt := 49) hx hb dX1_greater_42 (by decide) (by omega) (by omega) (fun c42 => ?_) (fun c42 => ?_)
      · skip
        refine lv_iconst (v := (bI false)) hx hb dX1_greater_49 (by decide +kernel) ?_
        exact tr_zret (wv := wM h cI cZ) (u := v) hx hb hret (bI_narrow _) hlk hK hP hD hS dX1_greater_50 (⟨rfl, by rw [decide_eq_false (by unfold tr_ky; omega)]⟩)
      · skip
        refine lv_iconst (v := (bI true)) hx hb dX1_greater_45 (by decide +kernel) ?_
        refine lv_goto (tgt := 50) hx hb dX1_greater_46 (by decide) ?_
        exact tr_zret (wv := wM h cI cZ) (u := v) hx hb hret (bI_narrow _) hlk hK hP hD hS dX1_greater_50 (⟨rfl, by rw [decide_eq_true (by unfold tr_ky; omega)]⟩)

set_option maxHeartbeats 4000000 in
theorem tr_M_following (l : Launch) (D : va_G) (h : Nat → Nat) (cI cZ : ClassId) (S : TS) (v : MW) (hR : RepM S v) (h1 : tr_I1 S) (r a b : Nat) (hr : r < 3) (ha : a ≤ 48) (hbn : ∀ b', b = b' + 1 → b' < S.n ∧ S.ins b' = true) : tr_MR l yX1_following cX1_following 7 (some .int) 1 22 D tr_cl (tr_ty cI cZ) (wM h cI cZ) [.ref (h 0), .int (nI r), .int (iI a), .int (iI b)] v (fun z => ∃ x, z = iI x ∧ tr_fol S.pa (tr_ky S) (tr_K S r) a b x) := by
  refine tr_enterI RX1 rfl (by decide) (Nat.le_of_ble_eq_true rfl) ?_
  intro p e s m below meth c0 A ls S0 hret hlk hK hP hD hS hA hl
  have hx := S0.1
  have hb := S0.2.1
  have hl : lv_has ls 7 [(0, .ref (h 0)), (1, .int (nI r)), (2, .int (iI a)), (3, .int (iI b))] := hl
  have hn := h1.1
  have hb48 : b ≤ 48 := by
    cases hb0 : b with
    | zero => omega
    | succ b' => have := (hbn b' hb0).1; omega
  refine lv_iconst (v := (iI 0)) hx hb dX1_following_0 (by decide +kernel) ?_
  refine lv_istore (lv' := [(4, .int (iI 0)), (0, .ref (h 0)), (1, .int (nI r)), (2, .int (iI a)), (3, .int (iI b))]) hx hb dX1_following_1 hl (by decide) rfl (fun ls hl => ?_)
  refine lv_iconst (v := (nI 0)) hx hb dX1_following_3 (by decide +kernel) ?_
  refine lv_istore (lv' := [(5, .int (nI 0)), (4, .int (iI 0)), (0, .ref (h 0)), (1, .int (nI r)), (2, .int (iI a)), (3, .int (iI b))]) hx hb dX1_following_4 hl (by decide) rfl (fun ls hl => ?_)
  refine tr_loop (wv := wM h cI cZ) (τ := Nat × Nat) (lv := fun st => [(0, .ref (h 0)), (1, .int (nI r)), (2, .int (iI a)), (3, .int (iI b)), (4, .int (iI st.2)), (5, .int (nI st.1))]) (ww := fun _ => v) (I := fun st => st.1 ≤ S.n ∧ tr_fol S.pa (tr_ky S) (fun c => c < st.1 ∧ tr_K S r c) a b st.2) (μ := fun st => S.n - st.1) ?_ (0, 0) ⟨Nat.zero_le _, tr_fol_0⟩ hP hD hS (lv_sub hl [2, 3, 4, 5, 1, 0] rfl)
  rintro ⟨i, x⟩ ⟨hi, hf⟩ ih H locs ls hP hD hS hl
  dsimp only at hi hf
  have hl : lv_has ls 7 [(0, .ref (h 0)), (1, .int (nI r)), (2, .int (iI a)), (3, .int (iI b)), (4, .int (iI x)), (5, .int (nI i))] := hl
  have hx48 : x ≤ 48 := by
    cases x with
    | zero => omega
    | succ y => have := (tr_fol_K hf).1; omega
  refine lv_iload hx hb dX1_following_6 (lv_at hl 5 rfl) ?_
  refine lv_aload_n hx hb dX1_following_8 rfl (lv_at hl 0 rfl) ?_
  refine tr_mg (x := .int (nI S.n)) S0 hK hP 0 (by decide) q155 rfl (by rw [← hR.made]; rfl) dX1_following_9 ?_
  refine tr_cge (tgt := 88) hx hb dX1_following_12 (by decide) (by omega) (by omega) (fun c12 => ?_) (fun c12 => ?_)
  · skip
    have ei : i = S.n := by omega
    subst ei
    refine lv_iload hx hb dX1_following_88 (lv_at hl 4 rfl) ?_
    exact tr_iret (wv := wM h cI cZ) (u := v) hx hb hret hlk hK hP hD hS dX1_following_90 (⟨rfl, x, rfl, tr_fol_n hf (fun c hc => hc.1)⟩)
  · skip
    refine lv_aload_n hx hb dX1_following_15 rfl (lv_at hl 0 rfl) ?_
    refine lv_iload_n hx hb dX1_following_16 rfl (lv_at hl 1 rfl) ?_
    refine lv_iload hx hb dX1_following_17 (lv_at hl 5 rfl) ?_
    refine tr_callR (As := [.int (nI r), .int (nI i)]) (rest := []) S0 (tr_M_inRow l D h cI cZ S v hR hn r i hr c12) 2 (lw_V q198 q200 qs10 q18 q201) (by decide +kernel) ⟨Nat.le_of_ble_eq_true rfl, Nat.le_of_ble_eq_true rfl⟩ hK hP hD hS hA rfl rfl rfl hl.1 rfl (Nat.le_of_ble_eq_true rfl) dX1_following_19 ⟨Nat.le_of_ble_eq_true rfl, Nat.le_of_ble_eq_true rfl⟩ (fun r19 hw19 H locs hP hS => ?_)
    subst hw19
    refine tr_feqB (tgt := 54) hx hb dX1_following_22 (by decide) (fun c22 => ?_) (fun c22 => ?_)
    · skip
      refine lv_iconst (v := (bI false)) hx hb dX1_following_54 (by decide +kernel) ?_
      refine lv_istore (lv' := [(6, .int (bI false)), (0, .ref (h 0)), (1, .int (nI r)), (2, .int (iI a)), (3, .int (iI b)), (4, .int (iI x)), (5, .int (nI i))]) hx hb dX1_following_55 hl (by decide) rfl (fun ls hl => ?_)
      refine lv_iload hx hb dX1_following_57 (lv_at hl 0 rfl) ?_
      refine tr_feqB (tgt := 82) hx hb dX1_following_59 (by decide) (fun c59 => ?_) (fun c59 => ?_)
      · skip
        refine lv_iinc (v := (nI (i + 1))) (lv' := [(5, .int (nI (i + 1))), (6, .int (bI false)), (0, .ref (h 0)), (1, .int (nI r)), (2, .int (iI a)), (3, .int (iI b)), (4, .int (iI x))]) hx hb dX1_following_82 hl (k := 6) rfl (nI_inc _) (by decide) rfl (fun ls hl => ?_)
        refine lv_goto (tgt := 6) hx hb dX1_following_85 (by decide) ?_
        exact ih (i + 1, x) ⟨by dsimp only; omega, tr_fol_no hf (fun q => by have := q.1.2.2; have h2 := q.1.2.1; rw [this, h2] at c22; cases c22)⟩ (by dsimp only; omega) H locs ls hP hD hS (lv_sub hl [2, 3, 4, 5, 6, 0] rfl)
      · skip
        cases c59
    · skip
      have hKi : tr_K S r i := by
        simp only [Bool.and_eq_true] at c22
        exact ⟨c12, c22.2, c22.1⟩
      have hpi := (h1.2 i c12).2.1
      refine lv_aload_n hx hb dX1_following_25 rfl (lv_at hl 0 rfl) ?_
      refine tr_mg (x := .ref (h 4)) S0 hK hP 4 (by decide) q159 rfl rfl dX1_following_26 ?_
      refine lv_iload hx hb dX1_following_29 (lv_at hl 5 rfl) ?_
      refine tr_ald (v := (iI (S.pa i))) hx hb hK hP 4 0 rfl rfl (by decide) (by omega) (hR.pa i c12) dX1_following_31 ?_
      refine lv_iload_n hx hb dX1_following_32 rfl (lv_at hl 2 rfl) ?_
      refine tr_cneI (tgt := 54) hx hb dX1_following_33 (by decide) (by omega) (by omega) (fun c33 => ?_) (fun c33 => ?_)
      · skip
        refine lv_iconst (v := (bI false)) hx hb dX1_following_54 (by decide +kernel) ?_
        refine lv_istore (lv' := [(6, .int (bI false)), (0, .ref (h 0)), (1, .int (nI r)), (2, .int (iI a)), (3, .int (iI b)), (4, .int (iI x)), (5, .int (nI i))]) hx hb dX1_following_55 hl (by decide) rfl (fun ls hl => ?_)
        refine lv_iload hx hb dX1_following_57 (lv_at hl 0 rfl) ?_
        refine tr_feqB (tgt := 82) hx hb dX1_following_59 (by decide) (fun c59 => ?_) (fun c59 => ?_)
        · skip
          refine lv_iinc (v := (nI (i + 1))) (lv' := [(5, .int (nI (i + 1))), (6, .int (bI false)), (0, .ref (h 0)), (1, .int (nI r)), (2, .int (iI a)), (3, .int (iI b)), (4, .int (iI x))]) hx hb dX1_following_82 hl (k := 6) rfl (nI_inc _) (by decide) rfl (fun ls hl => ?_)
          refine lv_goto (tgt := 6) hx hb dX1_following_85 (by decide) ?_
          exact ih (i + 1, x) ⟨by dsimp only; omega, tr_fol_no hf (fun q => c33 q.2.1)⟩ (by dsimp only; omega) H locs ls hP hD hS (lv_sub hl [2, 3, 4, 5, 6, 0] rfl)
        · skip
          cases c59
      · skip
        refine lv_iload_n hx hb dX1_following_36 rfl (lv_at hl 3 rfl) ?_
        refine tr_fltI (tgt := 50) hx hb dX1_following_37 (by decide) (by omega) (fun c37 => ?_) (fun c37 => ?_)
        · skip
          refine lv_iconst (v := (bI true)) hx hb dX1_following_50 (by decide +kernel) ?_
          refine lv_goto (tgt := 55) hx hb dX1_following_51 (by decide) ?_
          refine lv_istore (lv' := [(6, .int (bI true)), (0, .ref (h 0)), (1, .int (nI r)), (2, .int (iI a)), (3, .int (iI b)), (4, .int (iI x)), (5, .int (nI i))]) hx hb dX1_following_55 hl (by decide) rfl (fun ls hl => ?_)
          refine lv_iload hx hb dX1_following_57 (lv_at hl 0 rfl) ?_
          refine tr_feqB (tgt := 82) hx hb dX1_following_59 (by decide) (fun c59 => ?_) (fun c59 => ?_)
          · skip
            cases c59
          · skip
            refine lv_iload hx hb dX1_following_62 (lv_at hl 5 rfl) ?_
            refine tr_fltI (tgt := 78) hx hb dX1_following_64 (by decide) (by omega) (fun c64 => ?_) (fun c64 => ?_)
            · skip
              refine lv_iload hx hb dX1_following_78 (lv_at hl 6 rfl) ?_
              refine tr_topv (y := (iI (i + 1))) ((iI_s i).symm) ?_
              refine lv_istore (lv' := [(4, .int (iI (i + 1))), (6, .int (bI true)), (0, .ref (h 0)), (1, .int (nI r)), (2, .int (iI a)), (3, .int (iI b)), (5, .int (nI i))]) hx hb dX1_following_80 hl (by decide) rfl (fun ls hl => ?_)
              refine lv_iinc (v := (nI (i + 1))) (lv' := [(5, .int (nI (i + 1))), (4, .int (iI (i + 1))), (6, .int (bI true)), (0, .ref (h 0)), (1, .int (nI r)), (2, .int (iI a)), (3, .int (iI b))]) hx hb dX1_following_82 hl (k := 6) rfl (nI_inc _) (by decide) rfl (fun ls hl => ?_)
              refine lv_goto (tgt := 6) hx hb dX1_following_85 (by decide) ?_
              exact ih (i + 1, (i + 1)) ⟨by dsimp only; omega, (by subst c64; exact tr_fol_first hf hKi c33 (Or.inl c37))⟩ (by dsimp only; omega) H locs ls hP hD hS (lv_sub hl [3, 4, 5, 6, 1, 0] rfl)
            · skip
              obtain ⟨y, ey⟩ : ∃ y, x = y + 1 := ⟨x - 1, by omega⟩
              have hyK : tr_K S r y := by
                have h9 := hf
                rw [ey] at h9
                exact (tr_fol_K h9).2
              refine lv_aload_n hx hb dX1_following_67 rfl (lv_at hl 1 rfl) ?_
              refine lv_iload hx hb dX1_following_68 (lv_at hl 6 rfl) ?_
              refine lv_iload hx hb dX1_following_70 (lv_at hl 5 rfl) ?_
              refine tr_topv (y := (nI y)) (by rw [ey]; exact iI_s y) ?_
              refine tr_callR (As := [.int (nI i), .int (nI y)]) (rest := []) S0 (tr_M_greater l D h cI cZ S v hR h1 i y c12 hyK.1 hKi.2.1 hyK.2.1) 2 (lw_V q202 q204 qs11 q18 q205) (by decide +kernel) ⟨Nat.le_of_ble_eq_true rfl, Nat.le_of_ble_eq_true rfl⟩ hK hP hD hS hA rfl rfl rfl hl.1 rfl (Nat.le_of_ble_eq_true rfl) dX1_following_72 ⟨Nat.le_of_ble_eq_true rfl, Nat.le_of_ble_eq_true rfl⟩ (fun r72 hw72 H locs hP hS => ?_)
              subst hw72
              refine tr_feqB (tgt := 82) hx hb dX1_following_75 (by decide) (fun c75 => ?_) (fun c75 => ?_)
              · skip
                rw [ey] at hl
                refine lv_iinc (v := (nI (i + 1))) (lv' := [(5, .int (nI (i + 1))), (6, .int (bI true)), (0, .ref (h 0)), (1, .int (nI r)), (2, .int (iI a)), (3, .int (iI b)), (4, .int (iI (y + 1)))]) hx hb dX1_following_82 hl (k := 6) rfl (nI_inc _) (by decide) rfl (fun ls hl => ?_)
                refine lv_goto (tgt := 6) hx hb dX1_following_85 (by decide) ?_
                exact ih (i + 1, (y + 1)) ⟨by dsimp only; omega, (tr_fol_less (by rw [← ey]; exact hf) (of_decide_eq_false c75))⟩ (by dsimp only; omega) H locs ls hP hD hS (lv_sub hl [2, 3, 4, 5, 6, 0] rfl)
              · skip
                refine lv_iload hx hb dX1_following_78 (lv_at hl 6 rfl) ?_
                refine tr_topv (y := (iI (i + 1))) ((iI_s i).symm) ?_
                refine lv_istore (lv' := [(4, .int (iI (i + 1))), (6, .int (bI true)), (0, .ref (h 0)), (1, .int (nI r)), (2, .int (iI a)), (3, .int (iI b)), (5, .int (nI i))]) hx hb dX1_following_80 hl (by decide) rfl (fun ls hl => ?_)
                refine lv_iinc (v := (nI (i + 1))) (lv' := [(5, .int (nI (i + 1))), (4, .int (iI (i + 1))), (6, .int (bI true)), (0, .ref (h 0)), (1, .int (nI r)), (2, .int (iI a)), (3, .int (iI b))]) hx hb dX1_following_82 hl (k := 6) rfl (nI_inc _) (by decide) rfl (fun ls hl => ?_)
                refine lv_goto (tgt := 6) hx hb dX1_following_85 (by decide) ?_
                exact ih (i + 1, (i + 1)) ⟨by dsimp only; omega, (tr_fol_more (by rw [← ey]; exact hf) hKi c33 (Or.inl c37) (of_decide_eq_true c75))⟩ (by dsimp only; omega) H locs ls hP hD hS (lv_sub hl [3, 4, 5, 6, 1, 0] rfl)
        · skip
          obtain ⟨b', eb⟩ : ∃ b', b = b' + 1 := ⟨b - 1, by omega⟩
          obtain ⟨hb1, hb2⟩ := hbn b' eb
          refine lv_aload_n hx hb dX1_following_40 rfl (lv_at hl 0 rfl) ?_
          refine lv_iload_n hx hb dX1_following_41 rfl (lv_at hl 3 rfl) ?_
          refine tr_topv (y := (nI b')) (by rw [eb]; exact iI_s b') ?_
          refine lv_iload hx hb dX1_following_42 (lv_at hl 5 rfl) ?_
          refine tr_callR (As := [.int (nI b'), .int (nI i)]) (rest := []) S0 (tr_M_greater l D h cI cZ S v hR h1 b' i hb1 c12 hb2 hKi.2.1) 2 (lw_V q202 q204 qs11 q18 q205) (by decide +kernel) ⟨Nat.le_of_ble_eq_true rfl, Nat.le_of_ble_eq_true rfl⟩ hK hP hD hS hA rfl rfl rfl hl.1 rfl (Nat.le_of_ble_eq_true rfl) dX1_following_44 ⟨Nat.le_of_ble_eq_true rfl, Nat.le_of_ble_eq_true rfl⟩ (fun r44 hw44 H locs hP hS => ?_)
          subst hw44
          refine tr_feqB (tgt := 54) hx hb dX1_following_47 (by decide) (fun c47 => ?_) (fun c47 => ?_)
          · skip
            refine lv_iconst (v := (bI false)) hx hb dX1_following_54 (by decide +kernel) ?_
            refine lv_istore (lv' := [(6, .int (bI false)), (0, .ref (h 0)), (1, .int (nI r)), (2, .int (iI a)), (3, .int (iI b)), (4, .int (iI x)), (5, .int (nI i))]) hx hb dX1_following_55 hl (by decide) rfl (fun ls hl => ?_)
            refine lv_iload hx hb dX1_following_57 (lv_at hl 0 rfl) ?_
            refine tr_feqB (tgt := 82) hx hb dX1_following_59 (by decide) (fun c59 => ?_) (fun c59 => ?_)
            · skip
              refine lv_iinc (v := (nI (i + 1))) (lv' := [(5, .int (nI (i + 1))), (6, .int (bI false)), (0, .ref (h 0)), (1, .int (nI r)), (2, .int (iI a)), (3, .int (iI b)), (4, .int (iI x))]) hx hb dX1_following_82 hl (k := 6) rfl (nI_inc _) (by decide) rfl (fun ls hl => ?_)
              refine lv_goto (tgt := 6) hx hb dX1_following_85 (by decide) ?_
              exact ih (i + 1, x) ⟨by dsimp only; omega, tr_fol_no hf (fun q => by rcases q.2.2 with q | q; exact c37 q; rw [eb, Nat.add_sub_cancel] at q; exact of_decide_eq_false c47 q)⟩ (by dsimp only; omega) H locs ls hP hD hS (lv_sub hl [2, 3, 4, 5, 6, 0] rfl)
            · skip
              cases c59
          · skip
            refine lv_iconst (v := (bI true)) hx hb dX1_following_50 (by decide +kernel) ?_
            refine lv_goto (tgt := 55) hx hb dX1_following_51 (by decide) ?_
            refine lv_istore (lv' := [(6, .int (bI true)), (0, .ref (h 0)), (1, .int (nI r)), (2, .int (iI a)), (3, .int (iI b)), (4, .int (iI x)), (5, .int (nI i))]) hx hb dX1_following_55 hl (by decide) rfl (fun ls hl => ?_)
            refine lv_iload hx hb dX1_following_57 (lv_at hl 0 rfl) ?_
            refine tr_feqB (tgt := 82) hx hb dX1_following_59 (by decide) (fun c59 => ?_) (fun c59 => ?_)
            · skip
              cases c59
            · skip
              refine lv_iload hx hb dX1_following_62 (lv_at hl 5 rfl) ?_
              refine tr_fltI (tgt := 78) hx hb dX1_following_64 (by decide) (by omega) (fun c64 => ?_) (fun c64 => ?_)
              · skip
                refine lv_iload hx hb dX1_following_78 (lv_at hl 6 rfl) ?_
                refine tr_topv (y := (iI (i + 1))) ((iI_s i).symm) ?_
                refine lv_istore (lv' := [(4, .int (iI (i + 1))), (6, .int (bI true)), (0, .ref (h 0)), (1, .int (nI r)), (2, .int (iI a)), (3, .int (iI b)), (5, .int (nI i))]) hx hb dX1_following_80 hl (by decide) rfl (fun ls hl => ?_)
                refine lv_iinc (v := (nI (i + 1))) (lv' := [(5, .int (nI (i + 1))), (4, .int (iI (i + 1))), (6, .int (bI true)), (0, .ref (h 0)), (1, .int (nI r)), (2, .int (iI a)), (3, .int (iI b))]) hx hb dX1_following_82 hl (k := 6) rfl (nI_inc _) (by decide) rfl (fun ls hl => ?_)
                refine lv_goto (tgt := 6) hx hb dX1_following_85 (by decide) ?_
                exact ih (i + 1, (i + 1)) ⟨by dsimp only; omega, (by subst c64; exact tr_fol_first hf hKi c33 (Or.inr (by rw [eb, Nat.add_sub_cancel]; exact of_decide_eq_true c47)))⟩ (by dsimp only; omega) H locs ls hP hD hS (lv_sub hl [3, 4, 5, 6, 1, 0] rfl)
              · skip
                obtain ⟨y, ey⟩ : ∃ y, x = y + 1 := ⟨x - 1, by omega⟩
                have hyK : tr_K S r y := by
                  have h9 := hf
                  rw [ey] at h9
                  exact (tr_fol_K h9).2
                refine lv_aload_n hx hb dX1_following_67 rfl (lv_at hl 1 rfl) ?_
                refine lv_iload hx hb dX1_following_68 (lv_at hl 6 rfl) ?_
                refine lv_iload hx hb dX1_following_70 (lv_at hl 5 rfl) ?_
                refine tr_topv (y := (nI y)) (by rw [ey]; exact iI_s y) ?_
                refine tr_callR (As := [.int (nI i), .int (nI y)]) (rest := []) S0 (tr_M_greater l D h cI cZ S v hR h1 i y c12 hyK.1 hKi.2.1 hyK.2.1) 2 (lw_V q202 q204 qs11 q18 q205) (by decide +kernel) ⟨Nat.le_of_ble_eq_true rfl, Nat.le_of_ble_eq_true rfl⟩ hK hP hD hS hA rfl rfl rfl hl.1 rfl (Nat.le_of_ble_eq_true rfl) dX1_following_72 ⟨Nat.le_of_ble_eq_true rfl, Nat.le_of_ble_eq_true rfl⟩ (fun r72 hw72 H locs hP hS => ?_)
                subst hw72
                refine tr_feqB (tgt := 82) hx hb dX1_following_75 (by decide) (fun c75 => ?_) (fun c75 => ?_)
                · skip
                  rw [ey] at hl
                  refine lv_iinc (v := (nI (i + 1))) (lv' := [(5, .int (nI (i + 1))), (6, .int (bI true)), (0, .ref (h 0)), (1, .int (nI r)), (2, .int (iI a)), (3, .int (iI b)), (4, .int (iI (y + 1)))]) hx hb dX1_following_82 hl (k := 6) rfl (nI_inc _) (by decide) rfl (fun ls hl => ?_)
                  refine lv_goto (tgt := 6) hx hb dX1_following_85 (by decide) ?_
                  exact ih (i + 1, (y + 1)) ⟨by dsimp only; omega, (tr_fol_less (by rw [← ey]; exact hf) (of_decide_eq_false c75))⟩ (by dsimp only; omega) H locs ls hP hD hS (lv_sub hl [2, 3, 4, 5, 6, 0] rfl)
                · skip
                  refine lv_iload hx hb dX1_following_78 (lv_at hl 6 rfl) ?_
                  refine tr_topv (y := (iI (i + 1))) ((iI_s i).symm) ?_
                  refine lv_istore (lv' := [(4, .int (iI (i + 1))), (6, .int (bI true)), (0, .ref (h 0)), (1, .int (nI r)), (2, .int (iI a)), (3, .int (iI b)), (5, .int (nI i))]) hx hb dX1_following_80 hl (by decide) rfl (fun ls hl => ?_)
                  refine lv_iinc (v := (nI (i + 1))) (lv' := [(5, .int (nI (i + 1))), (4, .int (iI (i + 1))), (6, .int (bI true)), (0, .ref (h 0)), (1, .int (nI r)), (2, .int (iI a)), (3, .int (iI b))]) hx hb dX1_following_82 hl (k := 6) rfl (nI_inc _) (by decide) rfl (fun ls hl => ?_)
                  refine lv_goto (tgt := 6) hx hb dX1_following_85 (by decide) ?_
                  exact ih (i + 1, (i + 1)) ⟨by dsimp only; omega, (tr_fol_more (by rw [← ey]; exact hf) hKi c33 (Or.inr (by rw [eb, Nat.add_sub_cancel]; exact of_decide_eq_true c47)) (of_decide_eq_true c75))⟩ (by dsimp only; omega) H locs ls hP hD hS (lv_sub hl [3, 4, 5, 6, 1, 0] rfl)
set_option maxHeartbeats 4000000 in
theorem tr_M_gone (l : Launch) (D : va_G) (h : Nat → Nat) (cI cZ : ClassId) (S : TS) (v : MW) (hR : RepM S v) (hI : tr_I S) (r c : Nat) (hr : r < 3) (hc : c ∈ S.row r) : tr_MR l yX1_gone cX1_gone 4 (some .boolean) 0 0 D tr_cl (tr_ty cI cZ) (wM h cI cZ) [.ref (h 0), .int (nI r), .int (nI c)] v (fun z => z = bI (S.tk r c)) := by
  refine tr_enterI RX1 rfl (by decide) (Nat.le_of_ble_eq_true rfl) ?_
  intro p e s m below meth c0 A ls S0 hret hlk hK hP hD hS hA hl
  have hx := S0.1
  have hb := S0.2.1
  have hl : lv_has ls 4 [(0, .ref (h 0)), (1, .int (nI r)), (2, .int (nI c))] := hl
  have hn := hI.1.1
  have h6 := hI.2.2.2.2.2.1 r hr c hc
  have hc48 := hI.id r hr c hc
  refine lv_iconst (v := (nI 0)) hx hb dX1_gone_0 (by decide +kernel) ?_
  refine lv_istore_n (lv' := [(3, .int (nI 0)), (0, .ref (h 0)), (1, .int (nI r)), (2, .int (nI c))]) hx hb dX1_gone_1 rfl hl (by decide) rfl (fun ls hl => ?_)
  refine tr_loop (wv := wM h cI cZ) (τ := Nat) (lv := fun st => [(0, .ref (h 0)), (1, .int (nI r)), (2, .int (nI c)), (3, .int (nI st))]) (ww := fun _ => v) (I := fun st => st ≤ S.n ∧ ∀ d, d < st → ¬ (S.ins d = false ∧ tr_kn S r d = true ∧ S.pa d = c + 1)) (μ := fun st => S.n - st) ?_ 0 ⟨Nat.zero_le _, fun d hd => absurd hd (by omega)⟩ hP hD hS (lv_sub hl [1, 2, 3, 0] rfl)
  rintro i ⟨hi, hno⟩ ih H locs ls hP hD hS hl
  have hl : lv_has ls 4 [(0, .ref (h 0)), (1, .int (nI r)), (2, .int (nI c)), (3, .int (nI i))] := hl
  refine lv_iload_n hx hb dX1_gone_2 rfl (lv_at hl 3 rfl) ?_
  refine lv_aload_n hx hb dX1_gone_3 rfl (lv_at hl 0 rfl) ?_
  refine tr_mg (x := .int (nI S.n)) S0 hK hP 0 (by decide) q155 rfl (by rw [← hR.made]; rfl) dX1_gone_4 ?_
  refine tr_cge (tgt := 51) hx hb dX1_gone_7 (by decide) (by omega) (by omega) (fun c7 => ?_) (fun c7 => ?_)
  · skip
    refine lv_iconst (v := (bI false)) hx hb dX1_gone_51 (by decide +kernel) ?_
    exact tr_zret (wv := wM h cI cZ) (u := v) hx hb hret (bI_narrow _) hlk hK hP hD hS dX1_gone_52 (⟨rfl, by cases ht : S.tk r c with | false => rfl | true => (obtain ⟨d, q1, q2, q3, q4⟩ := h6.mp ht; exact absurd ⟨q2, q3, q4⟩ (hno d (by omega)))⟩)
  · skip
    have hpi := (hI.1.2 i c7).2.1
    refine lv_aload_n hx hb dX1_gone_10 rfl (lv_at hl 0 rfl) ?_
    refine tr_mg (x := .ref (h 6)) S0 hK hP 6 (by decide) q161 rfl rfl dX1_gone_11 ?_
    refine lv_bipush (v := (nI 48)) hx hb dX1_gone_14 (by decide +kernel) ?_
    refine lv_iload_n hx hb dX1_gone_16 rfl (lv_at hl 1 rfl) ?_
    refine tr_imul (z := (nI (48 * r))) hx hb dX1_gone_17 (pk_mul _ _) ?_
    refine lv_iload_n hx hb dX1_gone_18 rfl (lv_at hl 3 rfl) ?_
    refine tr_iadd (z := (nI (48 * r + i))) hx hb dX1_gone_19 (nI_add _ _) ?_
    refine tr_zld (v := (bI (tr_kn S r i))) hx hb hK hP 6 1 rfl rfl (by decide) (by omega) (hR.kn r hr i c7) dX1_gone_20 ?_
    refine tr_feqB (tgt := 45) hx hb dX1_gone_21 (by decide) (fun c21 => ?_) (fun c21 => ?_)
    · skip
      refine lv_iinc (v := (nI (i + 1))) (lv' := [(3, .int (nI (i + 1))), (0, .ref (h 0)), (1, .int (nI r)), (2, .int (nI c))]) hx hb dX1_gone_45 hl (k := 3) rfl (nI_inc _) (by decide) rfl (fun ls hl => ?_)
      refine lv_goto (tgt := 2) hx hb dX1_gone_48 (by decide) ?_
      exact ih (i + 1) ⟨by omega, fun d hd q => (by by_cases e : d = i; (subst e; exact (by have := q.2.1; rw [c21] at this; cases this)); exact hno d (by omega) q)⟩ (by omega) H locs ls hP hD hS (lv_sub hl [1, 2, 3, 0] rfl)
    · skip
      refine lv_aload_n hx hb dX1_gone_24 rfl (lv_at hl 0 rfl) ?_
      refine tr_mg (x := .ref (h 2)) S0 hK hP 2 (by decide) q157 rfl rfl dX1_gone_25 ?_
      refine lv_iload_n hx hb dX1_gone_28 rfl (lv_at hl 3 rfl) ?_
      refine tr_zld (v := (bI (S.ins i))) hx hb hK hP 2 1 rfl rfl (by decide) (by omega) (hR.ins i c7) dX1_gone_29 ?_
      refine tr_fneB (tgt := 45) hx hb dX1_gone_30 (by decide) (fun c30 => ?_) (fun c30 => ?_)
      · skip
        refine lv_iinc (v := (nI (i + 1))) (lv' := [(3, .int (nI (i + 1))), (0, .ref (h 0)), (1, .int (nI r)), (2, .int (nI c))]) hx hb dX1_gone_45 hl (k := 3) rfl (nI_inc _) (by decide) rfl (fun ls hl => ?_)
        refine lv_goto (tgt := 2) hx hb dX1_gone_48 (by decide) ?_
        exact ih (i + 1) ⟨by omega, fun d hd q => (by by_cases e : d = i; (subst e; exact (by have := q.1; rw [c30] at this; cases this)); exact hno d (by omega) q)⟩ (by omega) H locs ls hP hD hS (lv_sub hl [1, 2, 3, 0] rfl)
      · skip
        refine lv_aload_n hx hb dX1_gone_33 rfl (lv_at hl 0 rfl) ?_
        refine tr_mg (x := .ref (h 4)) S0 hK hP 4 (by decide) q159 rfl rfl dX1_gone_34 ?_
        refine lv_iload_n hx hb dX1_gone_37 rfl (lv_at hl 3 rfl) ?_
        refine tr_ald (v := (iI (S.pa i))) hx hb hK hP 4 0 rfl rfl (by decide) (by omega) (hR.pa i c7) dX1_gone_38 ?_
        refine lv_iload_n hx hb dX1_gone_39 rfl (lv_at hl 2 rfl) ?_
        refine tr_topv (y := (iI (c + 1))) ((iI_s c).symm) ?_
        refine tr_cneI (tgt := 45) hx hb dX1_gone_40 (by decide) (by omega) (by omega) (fun c40 => ?_) (fun c40 => ?_)
        · skip
          refine lv_iinc (v := (nI (i + 1))) (lv' := [(3, .int (nI (i + 1))), (0, .ref (h 0)), (1, .int (nI r)), (2, .int (nI c))]) hx hb dX1_gone_45 hl (k := 3) rfl (nI_inc _) (by decide) rfl (fun ls hl => ?_)
          refine lv_goto (tgt := 2) hx hb dX1_gone_48 (by decide) ?_
          exact ih (i + 1) ⟨by omega, fun d hd q => (by by_cases e : d = i; (subst e; exact (c40 q.2.2)); exact hno d (by omega) q)⟩ (by omega) H locs ls hP hD hS (lv_sub hl [1, 2, 3, 0] rfl)
        · skip
          refine lv_iconst (v := (bI true)) hx hb dX1_gone_43 (by decide +kernel) ?_
          exact tr_zret (wv := wM h cI cZ) (u := v) hx hb hret (bI_narrow _) hlk hK hP hD hS dX1_gone_44 (⟨rfl, by rw [h6.mpr ⟨i, c7, c30, c21, c40⟩]⟩)
set_option maxHeartbeats 4000000 in
theorem tr_M_next (l : Launch) (D : va_G) (h : Nat → Nat) (cI cZ : ClassId) (S : TS) (v : MW) (hR : RepM S v) (hI : tr_I S) (r c : Nat) (A1 B : List Nat) (hr : r < 3) (hrow : S.row r = A1 ++ c :: B) : tr_MR l yX1_next cX1_next 7 (some .int) 2 48 D tr_cl (tr_ty cI cZ) (wM h cI cZ) [.ref (h 0), .int (nI r), .int (nI c)] v (fun z => z = iI (tr_hd B)) := by
  refine tr_enterI RX1 rfl (by decide) (Nat.le_of_ble_eq_true rfl) ?_
  intro p e s m below meth c0 A ls S0 hret hlk hK hP hD hS hA hl
  have hx := S0.1
  have hb := S0.2.1
  have hl : lv_has ls 7 [(0, .ref (h 0)), (1, .int (nI r)), (2, .int (nI c))] := hl
  have hn := hI.1.1
  have hcm : c ∈ S.row r := by rw [hrow]; simp
  have hcK := (hI.mem hr).mp hcm
  have hc48 := hcK.1
  have htree := hI.tree hr
  have hL : tr_row S.pa (tr_ky S) (tr_K S r) ((A1 ++ [c]) ++ B) := by
    have := hI.2.2.2.2.1 r hr
    rw [hrow] at this
    rw [List.append_assoc]
    exact this
  have hcut : tr_cut (c + 1) (A1 ++ [c]) := Or.inr ⟨A1, c, rfl, rfl⟩
  have hnd : tr_nd (tr_K S r) (c + 1) := Or.inr ⟨c, rfl, hcK⟩
  refine lv_aload_n hx hb dX1_next_0 rfl (lv_at hl 0 rfl) ?_
  refine lv_iload_n hx hb dX1_next_1 rfl (lv_at hl 1 rfl) ?_
  refine lv_iload_n hx hb dX1_next_2 rfl (lv_at hl 2 rfl) ?_
  refine tr_topv (y := (iI (c + 1))) ((iI_s c).symm) ?_
  refine lv_iconst (v := (iI 0)) hx hb dX1_next_3 (by decide +kernel) ?_
  refine tr_callR (As := [.int (nI r), .int (iI (c + 1)), .int (iI 0)]) (rest := []) S0 (tr_M_following l D h cI cZ S v hR hI.1 r (c + 1) 0 hr (by omega) (fun b' e => absurd e (by omega))) 3 (lw_V q194 q196 qs9 q18 q197) (by decide +kernel) ⟨Nat.le_of_ble_eq_true rfl, Nat.le_of_ble_eq_true rfl⟩ hK hP hD hS hA rfl rfl rfl hl.1 rfl (Nat.le_of_ble_eq_true rfl) dX1_next_4 ⟨Nat.le_of_ble_eq_true rfl, Nat.le_of_ble_eq_true rfl⟩ (fun r4 hw4 H locs hP hS => ?_)
  obtain ⟨x1, rfl, hx1⟩ := hw4
  have hx148 : x1 ≤ 48 := by
    cases x1 with
    | zero => omega
    | succ y => have := (tr_fol_K hx1).1; omega
  refine lv_istore_n (lv' := [(3, .int (iI x1)), (0, .ref (h 0)), (1, .int (nI r)), (2, .int (nI c))]) hx hb dX1_next_7 rfl hl (by decide) rfl (fun ls hl => ?_)
  refine lv_iload_n hx hb dX1_next_8 rfl (lv_at hl 0 rfl) ?_
  refine tr_fltI (tgt := 14) hx hb dX1_next_9 (by decide) (by omega) (fun c9 => ?_) (fun c9 => ?_)
  · skip
    subst c9
    refine lv_iload_n hx hb dX1_next_14 rfl (lv_at hl 3 rfl) ?_
    refine tr_topv (y := (iI (c + 1))) ((iI_s c).symm) ?_
    refine lv_istore (lv' := [(4, .int (iI (c + 1))), (3, .int (iI 0)), (0, .ref (h 0)), (1, .int (nI r)), (2, .int (nI c))]) hx hb dX1_next_15 hl (by decide) rfl (fun ls hl => ?_)
    refine lv_iconst (v := (nI 0)) hx hb dX1_next_17 (by decide +kernel) ?_
    refine lv_istore (lv' := [(5, .int (nI 0)), (4, .int (iI (c + 1))), (3, .int (iI 0)), (0, .ref (h 0)), (1, .int (nI r)), (2, .int (nI c))]) hx hb dX1_next_18 hl (by decide) rfl (fun ls hl => ?_)
    refine tr_loop (wv := wM h cI cZ) (τ := Nat × Nat) (lv := fun st => [(0, .ref (h 0)), (1, .int (nI r)), (2, .int (nI c)), (3, .int (iI 0)), (4, .int (iI st.2)), (5, .int (nI st.1))]) (ww := fun _ => v) (I := fun st => st.1 + st.2 ≤ 48 ∧ tr_nd (tr_K S r) st.2 ∧ tr_nosub S.pa (tr_ky S) (tr_K S r) (c + 1) st.2 ∧ ∃ q, tr_path S.pa (tr_ky S) (c + 1) = tr_path S.pa (tr_ky S) st.2 ++ q) (μ := fun st => st.2) ?_ (0, c + 1) ⟨by dsimp only; omega, hnd, tr_nosub_start htree hnd hx1, [], (List.append_nil _).symm⟩ hP hD hS (lv_sub hl [3, 4, 5, 2, 1, 0] rfl)
    rintro ⟨k, z⟩ ⟨hk, hz, hno, q, hq⟩ ih H locs ls hP hD hS hl
    dsimp only at hk hz hno hq
    cases z with
    | zero =>
      have hl : lv_has ls 7 [(0, .ref (h 0)), (1, .int (nI r)), (2, .int (nI c)), (3, .int (iI 0)), (4, .int (iI 0)), (5, .int (nI k))] := hl
      have hB : B = [] := tr_nosub_end hL hcut hno
      refine lv_iload hx hb dX1_next_20 (lv_at hl 5 rfl) ?_
      refine lv_bipush (v := (nI 48)) hx hb dX1_next_22 (by decide +kernel) ?_
      refine tr_cge (tgt := 71) hx hb dX1_next_24 (by decide) (by omega) (by omega) (fun c24 => ?_) (fun c24 => ?_)
      · skip
        refine lv_iconst (v := (iI 0)) hx hb dX1_next_71 (by decide +kernel) ?_
        exact tr_iret (wv := wM h cI cZ) (u := v) hx hb hret hlk hK hP hD hS dX1_next_72 (⟨rfl, by rw [hB]; rfl⟩)
      · skip
        refine lv_iload hx hb dX1_next_27 (lv_at hl 4 rfl) ?_
        refine tr_fltI (tgt := 71) hx hb dX1_next_29 (by decide) (by omega) (fun c29 => ?_) (fun c29 => ?_)
        · skip
          refine lv_iconst (v := (iI 0)) hx hb dX1_next_71 (by decide +kernel) ?_
          exact tr_iret (wv := wM h cI cZ) (u := v) hx hb hret hlk hK hP hD hS dX1_next_72 (⟨rfl, by rw [hB]; rfl⟩)
        · skip
          exact absurd rfl c29
    | succ b =>
      have hl : lv_has ls 7 [(0, .ref (h 0)), (1, .int (nI r)), (2, .int (nI c)), (3, .int (iI 0)), (4, .int (iI (b + 1))), (5, .int (nI k))] := hl
      have hbK : tr_K S r b := by
        rcases hz with e | ⟨b2, e, h2⟩
        · omega
        · have : b = b2 := by omega
          rw [this]; exact h2
      have hbn := hbK.1
      have hpb := (hI.1.2 b hbn).2.1
      refine lv_iload hx hb dX1_next_20 (lv_at hl 5 rfl) ?_
      refine lv_bipush (v := (nI 48)) hx hb dX1_next_22 (by decide +kernel) ?_
      refine tr_cge (tgt := 71) hx hb dX1_next_24 (by decide) (by omega) (by omega) (fun c24 => ?_) (fun c24 => ?_)
      · skip
        omega
      · skip
        refine lv_iload hx hb dX1_next_27 (lv_at hl 4 rfl) ?_
        refine tr_fltI (tgt := 71) hx hb dX1_next_29 (by decide) (by omega) (fun c29 => ?_) (fun c29 => ?_)
        · skip
          omega
        · skip
          refine lv_aload_n hx hb dX1_next_32 rfl (lv_at hl 0 rfl) ?_
          refine lv_iload_n hx hb dX1_next_33 rfl (lv_at hl 1 rfl) ?_
          refine lv_aload_n hx hb dX1_next_34 rfl (lv_at hl 0 rfl) ?_
          refine tr_mg (x := .ref (h 4)) S0 hK hP 4 (by decide) q159 rfl rfl dX1_next_35 ?_
          refine lv_iload hx hb dX1_next_38 (lv_at hl 4 rfl) ?_
          refine tr_topv (y := (nI b)) (iI_s b) ?_
          refine tr_ald (v := (iI (S.pa b))) hx hb hK hP 4 0 rfl rfl (by decide) (by omega) (hR.pa b hbn) dX1_next_40 ?_
          refine lv_iload hx hb dX1_next_41 (lv_at hl 4 rfl) ?_
          refine tr_callR (As := [.int (nI r), .int (iI (S.pa b)), .int (iI (b + 1))]) (rest := []) S0 (tr_M_following l D h cI cZ S v hR hI.1 r (S.pa b) (b + 1) hr (by omega) (fun b' e => by obtain rfl : b = b' := Nat.succ.inj e; exact ⟨hbn, hbK.2.1⟩)) 3 (lw_V q194 q196 qs9 q18 q197) (by decide +kernel) ⟨Nat.le_of_ble_eq_true rfl, Nat.le_of_ble_eq_true rfl⟩ hK hP hD hS hA rfl rfl rfl hl.1 rfl (Nat.le_of_ble_eq_true rfl) dX1_next_43 ⟨Nat.le_of_ble_eq_true rfl, Nat.le_of_ble_eq_true rfl⟩ (fun r43 hw43 H locs hP hS => ?_)
          obtain ⟨x2, rfl, hx2⟩ := hw43
          have hx248 : x2 ≤ 48 := by
            cases x2 with
            | zero => omega
            | succ y => have := (tr_fol_K hx2).1; omega
          refine lv_istore (lv' := [(6, .int (iI x2)), (0, .ref (h 0)), (1, .int (nI r)), (2, .int (nI c)), (3, .int (iI 0)), (4, .int (iI (b + 1))), (5, .int (nI k))]) hx hb dX1_next_46 hl (by decide) rfl (fun ls hl => ?_)
          refine lv_iload hx hb dX1_next_48 (lv_at hl 0 rfl) ?_
          refine tr_fltI (tgt := 56) hx hb dX1_next_50 (by decide) (by omega) (fun c50 => ?_) (fun c50 => ?_)
          · skip
            subst c50
            refine lv_aload_n hx hb dX1_next_56 rfl (lv_at hl 1 rfl) ?_
            refine tr_mg (x := .ref (h 4)) S0 hK hP 4 (by decide) q159 rfl rfl dX1_next_57 ?_
            refine lv_iload hx hb dX1_next_60 (lv_at hl 5 rfl) ?_
            refine tr_topv (y := (nI b)) (iI_s b) ?_
            refine tr_ald (v := (iI (S.pa b))) hx hb hK hP 4 0 rfl rfl (by decide) (by omega) (hR.pa b hbn) dX1_next_62 ?_
            refine lv_istore (lv' := [(4, .int (iI (S.pa b))), (6, .int (iI 0)), (0, .ref (h 0)), (1, .int (nI r)), (2, .int (nI c)), (3, .int (iI 0)), (5, .int (nI k))]) hx hb dX1_next_63 hl (by decide) rfl (fun ls hl => ?_)
            refine lv_iinc (v := (nI (k + 1))) (lv' := [(5, .int (nI (k + 1))), (4, .int (iI (S.pa b))), (6, .int (iI 0)), (0, .ref (h 0)), (1, .int (nI r)), (2, .int (nI c)), (3, .int (iI 0))]) hx hb dX1_next_65 hl (k := 6) rfl (nI_inc _) (by decide) rfl (fun ls hl => ?_)
            refine lv_goto (tgt := 20) hx hb dX1_next_68 (by decide) ?_
            exact ih (k + 1, S.pa b) ⟨by dsimp only; omega, tr_pa_nd htree hbK, tr_nosub_step htree hbK hq hno hx2, tr_ky S b :: q, (by dsimp only; rw [hq, tr_path_s hpb, List.append_assoc]; rfl)⟩ (by dsimp only; omega) H locs ls hP hD hS (lv_sub hl [3, 4, 5, 6, 1, 0] rfl)
          · skip
            obtain ⟨y, rfl⟩ : ∃ y, x2 = y + 1 := ⟨x2 - 1, by omega⟩
            refine lv_iload hx hb dX1_next_53 (lv_at hl 0 rfl) ?_
            exact tr_iret (wv := wM h cI cZ) (u := v) hx hb hret hlk hK hP hD hS dX1_next_55 (⟨rfl, by rw [tr_brother htree hL hcut hbK hq hno hx2]⟩)
  · skip
    obtain ⟨y, rfl⟩ : ∃ y, x1 = y + 1 := ⟨x1 - 1, by omega⟩
    refine lv_iload_n hx hb dX1_next_12 rfl (lv_at hl 0 rfl) ?_
    exact tr_iret (wv := wM h cI cZ) (u := v) hx hb hret hlk hK hP hD hS dX1_next_13 (⟨rfl, by rw [tr_child htree hL hcut hnd hx1]⟩)
set_option maxHeartbeats 4000000 in
theorem tr_M_greatest (l : Launch) (D : va_G) (h : Nat → Nat) (cI cZ : ClassId) (S : TS) (v : MW) (hR : RepM S v) (hI : tr_I S) (r : Nat) (hr : r < 3) : tr_MR l yX1_greatest cX1_greatest 4 (some .int) 1 22 D tr_cl (tr_ty cI cZ) (wM h cI cZ) [.ref (h 0), .int (nI r)] v (fun z => z = nI (S.gr r)) := by
  refine tr_enterI RX1 rfl (by decide) (Nat.le_of_ble_eq_true rfl) ?_
  intro p e s m below meth c0 A ls S0 hret hlk hK hP hD hS hA hl
  have hx := S0.1
  have hb := S0.2.1
  have hl : lv_has ls 4 [(0, .ref (h 0)), (1, .int (nI r))] := hl
  have hn := hI.1.1
  obtain ⟨k1, k2⟩ := hI.2.2.2.2.2.2 r hr
  refine lv_iconst (v := (nI 0)) hx hb dX1_greatest_0 (by decide +kernel) ?_
  refine lv_istore_n (lv' := [(2, .int (nI 0)), (0, .ref (h 0)), (1, .int (nI r))]) hx hb dX1_greatest_1 rfl hl (by decide) rfl (fun ls hl => ?_)
  refine lv_iconst (v := (nI 0)) hx hb dX1_greatest_2 (by decide +kernel) ?_
  refine lv_istore_n (lv' := [(3, .int (nI 0)), (2, .int (nI 0)), (0, .ref (h 0)), (1, .int (nI r))]) hx hb dX1_greatest_3 rfl hl (by decide) rfl (fun ls hl => ?_)
  refine tr_loop (wv := wM h cI cZ) (τ := Nat × Nat) (lv := fun st => [(0, .ref (h 0)), (1, .int (nI r)), (2, .int (nI st.2)), (3, .int (nI st.1))]) (ww := fun _ => v) (I := fun st => st.1 ≤ S.n ∧ (∀ c, c < st.1 → tr_K S r c → S.st c ≤ st.2) ∧ (st.2 = 0 ∨ ∃ c, tr_K S r c ∧ S.st c = st.2)) (μ := fun st => S.n - st.1) ?_ (0, 0) ⟨Nat.zero_le _, fun c hc => absurd hc (by dsimp only; omega), Or.inl rfl⟩ hP hD hS (lv_sub hl [2, 3, 1, 0] rfl)
  rintro ⟨i, g⟩ ⟨hi, hle, hex⟩ ih H locs ls hP hD hS hl
  dsimp only at hi hle hex
  have hl : lv_has ls 4 [(0, .ref (h 0)), (1, .int (nI r)), (2, .int (nI g)), (3, .int (nI i))] := hl
  have hg48 : g ≤ 48 := by
    rcases hex with e | ⟨c, hc, e⟩
    · omega
    · have := ((hI.1.2 c hc.1).2.2.1 hc.2.1).2
      have := hc.1
      omega
  refine lv_iload_n hx hb dX1_greatest_4 rfl (lv_at hl 3 rfl) ?_
  refine lv_aload_n hx hb dX1_greatest_5 rfl (lv_at hl 0 rfl) ?_
  refine tr_mg (x := .int (nI S.n)) S0 hK hP 0 (by decide) q155 rfl (by rw [← hR.made]; rfl) dX1_greatest_6 ?_
  refine tr_cge (tgt := 44) hx hb dX1_greatest_9 (by decide) (by omega) (by omega) (fun c9 => ?_) (fun c9 => ?_)
  · skip
    have ei : i = S.n := by omega
    subst ei
    have hgg : g = S.gr r := by
      rcases k2 with e | ⟨c, hc, e⟩
      · rcases hex with e2 | ⟨d, hd, e2⟩
        · omega
        · have := k1 d hd
          omega
      · have q1 := hle c hc.1 hc
        rcases hex with e2 | ⟨d, hd, e2⟩
        · omega
        · have := k1 d hd
          omega
    refine lv_iload_n hx hb dX1_greatest_44 rfl (lv_at hl 2 rfl) ?_
    exact tr_iret (wv := wM h cI cZ) (u := v) hx hb hret hlk hK hP hD hS dX1_greatest_45 (⟨rfl, by rw [hgg]⟩)
  · skip
    refine lv_aload_n hx hb dX1_greatest_12 rfl (lv_at hl 0 rfl) ?_
    refine lv_iload_n hx hb dX1_greatest_13 rfl (lv_at hl 1 rfl) ?_
    refine lv_iload_n hx hb dX1_greatest_14 rfl (lv_at hl 3 rfl) ?_
    refine tr_callR (As := [.int (nI r), .int (nI i)]) (rest := []) S0 (tr_M_inRow l D h cI cZ S v hR hn r i hr c9) 2 (lw_V q198 q200 qs10 q18 q201) (by decide +kernel) ⟨Nat.le_of_ble_eq_true rfl, Nat.le_of_ble_eq_true rfl⟩ hK hP hD hS hA rfl rfl rfl hl.1 rfl (Nat.le_of_ble_eq_true rfl) dX1_greatest_15 ⟨Nat.le_of_ble_eq_true rfl, Nat.le_of_ble_eq_true rfl⟩ (fun r15 hw15 H locs hP hS => ?_)
    subst hw15
    refine tr_feqB (tgt := 38) hx hb dX1_greatest_18 (by decide) (fun c18 => ?_) (fun c18 => ?_)
    · skip
      refine lv_iinc (v := (nI (i + 1))) (lv' := [(3, .int (nI (i + 1))), (0, .ref (h 0)), (1, .int (nI r)), (2, .int (nI g))]) hx hb dX1_greatest_38 hl (k := 3) rfl (nI_inc _) (by decide) rfl (fun ls hl => ?_)
      refine lv_goto (tgt := 4) hx hb dX1_greatest_41 (by decide) ?_
      exact ih (i + 1, g) ⟨by dsimp only; omega, fun c hc hK => (by by_cases e : c = i; (subst e; exfalso; rw [hK.2.2, hK.2.1] at c18; cases c18); exact hle c (by dsimp only at hc; omega) hK), hex⟩ (by dsimp only; omega) H locs ls hP hD hS (lv_sub hl [1, 2, 3, 0] rfl)
    · skip
      have hKi : tr_K S r i := by
        simp only [Bool.and_eq_true] at c18
        exact ⟨c9, c18.2, c18.1⟩
      have hsi := ((hI.1.2 i c9).2.2.1 hKi.2.1).2
      refine lv_aload_n hx hb dX1_greatest_21 rfl (lv_at hl 0 rfl) ?_
      refine tr_mg (x := .ref (h 5)) S0 hK hP 5 (by decide) q160 rfl rfl dX1_greatest_22 ?_
      refine lv_iload_n hx hb dX1_greatest_25 rfl (lv_at hl 3 rfl) ?_
      refine tr_ald (v := (nI (S.st i))) hx hb hK hP 5 0 rfl rfl (by decide) (by omega) (hR.st i c9 hKi.2.1) dX1_greatest_26 ?_
      refine lv_iload_n hx hb dX1_greatest_27 rfl (lv_at hl 2 rfl) ?_
      refine tr_cle (tgt := 38) hx hb dX1_greatest_28 (by decide) (by omega) (by omega) (fun c28 => ?_) (fun c28 => ?_)
      · skip
        refine lv_iinc (v := (nI (i + 1))) (lv' := [(3, .int (nI (i + 1))), (0, .ref (h 0)), (1, .int (nI r)), (2, .int (nI g))]) hx hb dX1_greatest_38 hl (k := 3) rfl (nI_inc _) (by decide) rfl (fun ls hl => ?_)
        refine lv_goto (tgt := 4) hx hb dX1_greatest_41 (by decide) ?_
        exact ih (i + 1, g) ⟨by dsimp only; omega, fun c hc hK => (by by_cases e : c = i; (subst e; exact c28); exact hle c (by dsimp only at hc; omega) hK), hex⟩ (by dsimp only; omega) H locs ls hP hD hS (lv_sub hl [1, 2, 3, 0] rfl)
      · skip
        refine lv_aload_n hx hb dX1_greatest_31 rfl (lv_at hl 0 rfl) ?_
        refine tr_mg (x := .ref (h 5)) S0 hK hP 5 (by decide) q160 rfl rfl dX1_greatest_32 ?_
        refine lv_iload_n hx hb dX1_greatest_35 rfl (lv_at hl 3 rfl) ?_
        refine tr_ald (v := (nI (S.st i))) hx hb hK hP 5 0 rfl rfl (by decide) (by omega) (hR.st i c9 hKi.2.1) dX1_greatest_36 ?_
        refine lv_istore_n (lv' := [(2, .int (nI (S.st i))), (0, .ref (h 0)), (1, .int (nI r)), (3, .int (nI i))]) hx hb dX1_greatest_37 rfl hl (by decide) rfl (fun ls hl => ?_)
        refine lv_iinc (v := (nI (i + 1))) (lv' := [(3, .int (nI (i + 1))), (2, .int (nI (S.st i))), (0, .ref (h 0)), (1, .int (nI r))]) hx hb dX1_greatest_38 hl (k := 3) rfl (nI_inc _) (by decide) rfl (fun ls hl => ?_)
        refine lv_goto (tgt := 4) hx hb dX1_greatest_41 (by decide) ?_
        exact ih (i + 1, S.st i) ⟨by dsimp only; omega, fun c hc hK => (by by_cases e : c = i; (subst e; exact Nat.le_refl _); (have := hle c (by dsimp only at hc; omega) hK; dsimp only; omega)), Or.inr ⟨i, hKi, rfl⟩⟩ (by dsimp only; omega) H locs ls hP hD hS (lv_sub hl [2, 3, 1, 0] rfl)
end
section
/-! PURE for M, 2: the first of a row, counts, the text laid out -/
theorem tr_first {S : TS} (hI : tr_I S) {r x : Nat} (hr : r < 3) (h : tr_fol S.pa (tr_ky S) (tr_K S r) 0 0 x) : x = tr_hd (S.row r) := by
  have hL : tr_row S.pa (tr_ky S) (tr_K S r) ([] ++ S.row r) := hI.2.2.2.2.1 r hr
  have hcut : tr_cut 0 [] := Or.inl ⟨rfl, rfl⟩
  cases x with
  | zero => rw [tr_nosub_end hL hcut (tr_nosub_start (hI.tree hr) (Or.inl rfl) h)]; rfl
  | succ y => rw [tr_child (hI.tree hr) hL hcut (Or.inl rfl) h]
def tr_laid (S : TS) (r : Nat) (w : MW) : Prop := RepM S w ∧ w.2.1 = nI (tr_tx S r).length ∧ ∀ j, j < (tr_tx S r).length → w.2.2 8 j = nI ((tr_tx S r).getD j 0)
theorem tr_nf {b : Bool} (h : (!b) = false) : b = true := by cases b <;> simp_all
theorem tr_nt {b : Bool} (h : (!b) = true) : b = false := by cases b <;> simp_all
def tr_ct (P : Nat → Bool) : Nat → Nat
  | 0 => 0
  | n + 1 => tr_ct P n + (if P n = true then 1 else 0)
theorem tr_ct_t {P : Nat → Bool} {n : Nat} (h : P n = true) : tr_ct P (n + 1) = tr_ct P n + 1 := by
  show tr_ct P n + (if P n = true then 1 else 0) = _
  rw [if_pos h]
theorem tr_ct_f {P : Nat → Bool} {n : Nat} (h : P n = false) : tr_ct P (n + 1) = tr_ct P n := by
  show tr_ct P n + (if P n = true then 1 else 0) = _
  rw [if_neg (by rw [h]; decide)]
  rfl
theorem tr_ct_le (P : Nat → Bool) (n : Nat) : tr_ct P n ≤ n := by
  induction n with
  | zero => exact Nat.le_refl _
  | succ n ih =>
    show tr_ct P n + (if P n = true then 1 else 0) ≤ _
    split <;> omega
theorem tr_ct_len {P : Nat → Bool} : ∀ (n : Nat) (L : List Nat), L.Nodup → (∀ x, x ∈ L ↔ x < n ∧ P x = true) → L.length = tr_ct P n := by
  intro n
  induction n with
  | zero =>
    intro L hn h
    cases L with
    | nil => rfl
    | cons a L => exact absurd ((h a).mp List.mem_cons_self).1 (by omega)
  | succ n ih =>
    intro L hn h
    have h1 := ih (L.erase n) (hn.erase n) (fun x => by
      rw [hn.mem_erase_iff, h x]
      constructor
      · rintro ⟨q1, q2, q3⟩
        exact ⟨by omega, q3⟩
      · rintro ⟨q1, q2⟩
        exact ⟨by omega, by omega, q2⟩)
    cases hp : P n with
    | true =>
      have hm : n ∈ L := (h n).mpr ⟨by omega, hp⟩
      rw [tr_ct_t hp, ← h1, List.length_erase_of_mem hm]
      have := List.length_pos_of_mem hm
      omega
    | false =>
      have hm : n ∉ L := fun hm => by have := ((h n).mp hm).2; rw [hp] at this; cases this
      rw [tr_ct_f hp, ← h1, List.erase_of_not_mem hm]
theorem tr_ct_row {S : TS} (hI : tr_I S) {r : Nat} (hr : r < 3) : (S.row r).length = tr_ct (fun c => tr_kn S r c && S.ins c) S.n := by
  refine tr_ct_len S.n _ (hI.nodup hr) (fun x => ?_)
  rw [hI.mem hr]
  unfold tr_K
  simp only [Bool.and_eq_true]
  constructor
  · rintro ⟨q1, q2, q3⟩
    exact ⟨q1, q3, q2⟩
  · rintro ⟨q1, q3, q2⟩
    exact ⟨q1, q2, q3⟩
theorem tr_ct_kv (S : TS) (r o : Nat) : ∀ n, tr_ct (fun c => tr_kn S r c && decide (S.og c = o)) n = min (S.kv r o) (tr_cnt S.og o n) := by
  intro n
  induction n with
  | zero =>
    show 0 = min (S.kv r o) 0
    omega
  | succ n ih =>
    by_cases e : S.og n = o
    · have hc : tr_cnt S.og o (n + 1) = tr_cnt S.og o n + 1 := by rw [tr_cnt_s, if_pos e]
      have hnum : tr_num S n = tr_cnt S.og o n + 1 := by rw [tr_num_eq, e]
      by_cases hk : tr_num S n ≤ S.kv r o
      · have hkn : tr_kn S r n = true := tr_kn_t (by rw [e]; exact hk)
        rw [tr_ct_t (by show (tr_kn S r n && decide (S.og n = o)) = true; rw [hkn, decide_eq_true e]; rfl), ih, hc]
        omega
      · have hkn : tr_kn S r n = false := tr_kn_f (by rw [e]; omega)
        rw [tr_ct_f (by show (tr_kn S r n && decide (S.og n = o)) = false; rw [hkn]; rfl), ih, hc]
        omega
    · have hc : tr_cnt S.og o (n + 1) = tr_cnt S.og o n := by rw [tr_cnt_s, if_neg e]; rfl
      rw [tr_ct_f (by show (tr_kn S r n && decide (S.og n = o)) = false; rw [decide_eq_false e, Bool.and_false]), ih, hc]
theorem tr_ct_known {S : TS} (hI : tr_I S) {r o : Nat} (hr : r < 3) (ho : o < 3) : S.kv r o = tr_ct (fun c => tr_kn S r c && decide (S.og c = o)) S.n := by
  rw [tr_ct_kv]
  have := hI.2.2.1 r hr o ho
  omega
/-- the first change of f that t doesn't know has the next number -/
theorem tr_next_num {S : TS} {f t i : Nat} (ho : S.og i = f) (hk : tr_kn S t i = false) (hall : ∀ c, c < i → S.og c = f → tr_kn S t c = true) : tr_num S i = S.kv t f + 1 := by
  have h1 : S.kv t f < tr_num S i := by
    have := of_decide_eq_false hk
    rw [ho] at this
    omega
  rcases Nat.lt_or_ge (S.kv t f + 1) (tr_num S i) with q | q
  · exfalso
    obtain ⟨d, g1, g2, g3⟩ := tr_num_ex S f (i + 1) (S.kv t f + 1) (by omega) (by rw [← ho] at q ⊢; show _ ≤ tr_num S i; omega)
    have hdi : d ≠ i := by
      intro e
      rw [e] at g3
      omega
    have := hall d (by omega) g2
    rw [tr_kn_iff, g2] at this
    omega
  · omega
theorem tr_all_none {S : TS} {f t : Nat} (hall : ∀ c, c < S.n → S.og c = f → tr_kn S t c = true) : ∀ c, c < S.n → S.og c = f → tr_num S c ≠ S.kv t f + 1 := by
  intro c hc ho e
  have := hall c hc ho
  rw [tr_kn_iff, ho] at this
  omega
theorem tr_map_eq {f : Nat → Int32} {L1 L2 : List Nat} (hl : L1.length = L2.length) (h : ∀ j, j < L1.length → f (L1.getD j 0) = f (L2.getD j 0)) : L1.map f = L2.map f := by
  induction L1 generalizing L2 with
  | nil =>
    cases L2 with
    | nil => rfl
    | cons b L2 => simp at hl
  | cons a L1 ih =>
    cases L2 with
    | nil => simp at hl
    | cons b L2 =>
      rw [List.map_cons, List.map_cons]
      have h0 := h 0 (by simp)
      simp only [List.getD_cons_zero] at h0
      rw [h0, ih (by simpa using hl) (fun j hj => by have := h (j + 1) (by simpa using hj); simpa only [List.getD_cons_succ] using this)]
theorem tr_map_at {f : Nat → Int32} {L1 L2 : List Nat} (h : L1.map f = L2.map f) {j : Nat} (hj : j < L1.length) : f (L1.getD j 0) = f (L2.getD j 0) := by
  have hl : L1.length = L2.length := by
    have := congrArg List.length h
    rwa [List.length_map, List.length_map] at this
  have h1 : (L1.map f)[j]? = (L2.map f)[j]? := by rw [h]
  rw [List.getElem?_map, List.getElem?_map, tr_getD_some hj, tr_getD_some (by omega)] at h1
  exact Option.some.inj h1
end
section
/-! M: lay, length, letter, make, insert, delete (printed by gen/m_lay.py) -/
set_option maxRecDepth 100000
set_option maxHeartbeats 4000000 in
theorem tr_M_lay (l : Launch) (D : va_G) (h : Nat → Nat) (cI cZ : ClassId) (S : TS) (v : MW) (hR : RepM S v) (hI : tr_I S) (r : Nat) (hr : r < 3) : tr_MV l yX1_lay cX1_lay 4 3 74 D tr_cl (tr_ty cI cZ) (wM h cI cZ) [.ref (h 0), .int (nI r)] v (fun w => tr_laid S r w) := by
  refine tr_enterV RX1 rfl (by decide) (Nat.le_of_ble_eq_true rfl) ?_
  intro p e s m below meth c0 A ls S0 hret hlk hK hP hD hS hA hl
  have hx := S0.1
  have hb := S0.2.1
  have hl : lv_has ls 4 [(0, .ref (h 0)), (1, .int (nI r))] := hl
  have hn := hI.1.1
  have hrl := hI.rowlen hr
  refine lv_aload_n hx hb dX1_lay_0 rfl (lv_at hl 0 rfl) ?_
  refine lv_iconst (v := (nI 0)) hx hb dX1_lay_1 (by decide +kernel) ?_
  refine tr_mp7 S0 hK hP hD hS q162 dX1_lay_2 (fun H locs hP hD hS => ?_)
  have hP : va_P D tr_cl (wM h cI cZ (v.1, nI 0, v.2.2)) H := hP
  have hD : va_D A (wM h cI cZ (v.1, nI 0, v.2.2)) := hD
  have hR0 : RepM S (v.1, nI 0, v.2.2) := hR.scratch rfl (fun _ _ => rfl)
  refine lv_aload_n hx hb dX1_lay_5 rfl (lv_at hl 0 rfl) ?_
  refine lv_iload_n hx hb dX1_lay_6 rfl (lv_at hl 1 rfl) ?_
  refine lv_iconst (v := (iI 0)) hx hb dX1_lay_7 (by decide +kernel) ?_
  refine lv_iconst (v := (iI 0)) hx hb dX1_lay_8 (by decide +kernel) ?_
  refine tr_callR (As := [.int (nI r), .int (iI 0), .int (iI 0)]) (rest := []) S0 (tr_M_following l D h cI cZ S (v.1, nI 0, v.2.2) hR0 hI.1 r 0 0 hr (by omega) (fun b' e => absurd e (by omega))) 3 (lw_V q194 q196 qs9 q18 q197) (by decide +kernel) ⟨Nat.le_of_ble_eq_true rfl, Nat.le_of_ble_eq_true rfl⟩ hK hP hD hS hA rfl rfl rfl hl.1 rfl (Nat.le_of_ble_eq_true rfl) dX1_lay_9 ⟨Nat.le_of_ble_eq_true rfl, Nat.le_of_ble_eq_true rfl⟩ (fun r9 hw9 H locs hP hS => ?_)
  obtain ⟨x1, rfl, hx1⟩ := hw9
  obtain rfl : x1 = tr_hd (S.row r) := tr_first hI hr hx1
  refine lv_istore_n (lv' := [(2, .int (iI (tr_hd (S.row r)))), (0, .ref (h 0)), (1, .int (nI r))]) hx hb dX1_lay_12 rfl hl (by decide) rfl (fun ls hl => ?_)
  refine lv_iconst (v := (nI 0)) hx hb dX1_lay_13 (by decide +kernel) ?_
  refine lv_istore_n (lv' := [(3, .int (nI 0)), (2, .int (iI (tr_hd (S.row r)))), (0, .ref (h 0)), (1, .int (nI r))]) hx hb dX1_lay_14 rfl hl (by decide) rfl (fun ls hl => ?_)
  refine tr_loop (wv := wM h cI cZ) (τ := List Nat × List Nat × MW) (lv := fun st => [(0, .ref (h 0)), (1, .int (nI r)), (2, .int (iI (tr_hd st.2.1))), (3, .int (nI st.1.length))]) (ww := fun st => st.2.2) (I := fun st => S.row r = st.1 ++ st.2.1 ∧ RepM S st.2.2 ∧ st.2.2.2.1 = nI (st.1.filter (fun c => !S.tk r c)).length ∧ ∀ j, j < (st.1.filter (fun c => !S.tk r c)).length → st.2.2.2.2 8 j = nI ((st.1.filter (fun c => !S.tk r c)).getD j 0)) (μ := fun st => st.2.1.length) ?_ ([], S.row r, (v.1, nI 0, v.2.2)) ⟨rfl, hR0, rfl, fun j hj => absurd hj (by simp)⟩ hP hD hS (lv_sub hl [2, 3, 1, 0] rfl)
  rintro ⟨A1, B, w⟩ ⟨hrow, hRw, hsh, htx⟩ ih H locs ls hP hD hS hl
  dsimp only at hrow hRw hsh htx hP hD
  have hAl : A1.length + B.length ≤ 48 := by have h2 := hrl; rw [hrow, List.length_append] at h2; omega
  have hfl : (A1.filter (fun c => !S.tk r c)).length ≤ A1.length := List.length_filter_le _ _
  cases B with
  | nil =>
    have hl : lv_has ls 4 [(0, .ref (h 0)), (1, .int (nI r)), (2, .int (iI 0)), (3, .int (nI A1.length))] := hl
    have htxe : tr_tx S r = A1.filter (fun c => !S.tk r c) := by unfold tr_tx; rw [hrow, List.append_nil]
    rw [List.length_nil] at hAl
    refine lv_iload_n hx hb dX1_lay_15 rfl (lv_at hl 3 rfl) ?_
    refine lv_bipush (v := (nI 48)) hx hb dX1_lay_16 (by decide +kernel) ?_
    refine tr_cge (tgt := 67) hx hb dX1_lay_18 (by decide) (by omega) (by omega) (fun c18 => ?_) (fun c18 => ?_)
    · skip
      exact tr_vret (wv := wM h cI cZ) (u := w) hx hb hret hlk hK hP hD hS dX1_lay_67 (⟨hRw, by rw [htxe]; exact hsh, by rw [htxe]; exact htx⟩)
    · skip
      refine lv_iload_n hx hb dX1_lay_21 rfl (lv_at hl 2 rfl) ?_
      refine tr_fltI (tgt := 67) hx hb dX1_lay_22 (by decide) (by omega) (fun c22 => ?_) (fun c22 => ?_)
      · skip
        exact tr_vret (wv := wM h cI cZ) (u := w) hx hb hret hlk hK hP hD hS dX1_lay_67 (⟨hRw, by rw [htxe]; exact hsh, by rw [htxe]; exact htx⟩)
      · skip
        exact absurd rfl c22
  | cons b B =>
    have hl : lv_has ls 4 [(0, .ref (h 0)), (1, .int (nI r)), (2, .int (iI (b + 1))), (3, .int (nI A1.length))] := hl
    rw [List.length_cons] at hAl
    have hbm : b ∈ S.row r := by rw [hrow]; simp
    have hb48 := hI.id r hr b hbm
    refine lv_iload_n hx hb dX1_lay_15 rfl (lv_at hl 3 rfl) ?_
    refine lv_bipush (v := (nI 48)) hx hb dX1_lay_16 (by decide +kernel) ?_
    refine tr_cge (tgt := 67) hx hb dX1_lay_18 (by decide) (by omega) (by omega) (fun c18 => ?_) (fun c18 => ?_)
    · skip
      omega
    · skip
      refine lv_iload_n hx hb dX1_lay_21 rfl (lv_at hl 2 rfl) ?_
      refine tr_fltI (tgt := 67) hx hb dX1_lay_22 (by decide) (by omega) (fun c22 => ?_) (fun c22 => ?_)
      · skip
        omega
      · skip
        refine lv_aload_n hx hb dX1_lay_25 rfl (lv_at hl 0 rfl) ?_
        refine lv_iload_n hx hb dX1_lay_26 rfl (lv_at hl 1 rfl) ?_
        refine lv_iload_n hx hb dX1_lay_27 rfl (lv_at hl 2 rfl) ?_
        refine tr_topv (y := (nI b)) (iI_s b) ?_
        refine tr_callR (As := [.int (nI r), .int (nI b)]) (rest := []) S0 (tr_M_gone l D h cI cZ S w hRw hI r b hr hbm) 2 (lw_V q206 q208 qs12 q18 q209) (by decide +kernel) ⟨Nat.le_of_ble_eq_true rfl, Nat.le_of_ble_eq_true rfl⟩ hK hP hD hS hA rfl rfl rfl hl.1 rfl (Nat.le_of_ble_eq_true rfl) dX1_lay_28 ⟨Nat.le_of_ble_eq_true rfl, Nat.le_of_ble_eq_true rfl⟩ (fun r28 hw28 H locs hP hS => ?_)
        subst hw28
        refine tr_fneB (tgt := 54) hx hb dX1_lay_31 (by decide) (fun c31 => ?_) (fun c31 => ?_)
        · skip
          have hf1 : (A1 ++ [b]).filter (fun c => !S.tk r c) = A1.filter (fun c => !S.tk r c) := by
            rw [List.filter_append, List.filter_cons_of_neg (by rw [c31]; decide), List.filter_nil, List.append_nil]
          refine lv_aload_n hx hb dX1_lay_54 rfl (lv_at hl 0 rfl) ?_
          refine lv_iload_n hx hb dX1_lay_55 rfl (lv_at hl 1 rfl) ?_
          refine lv_iload_n hx hb dX1_lay_56 rfl (lv_at hl 2 rfl) ?_
          refine tr_topv (y := (nI b)) (iI_s b) ?_
          refine tr_callR (As := [.int (nI r), .int (nI b)]) (rest := []) S0 (tr_M_next l D h cI cZ S w hRw hI r b A1 B hr hrow) 2 (lw_V q210 q212 qs13 q18 q213) (by decide +kernel) ⟨Nat.le_of_ble_eq_true rfl, Nat.le_of_ble_eq_true rfl⟩ hK hP hD hS hA rfl rfl rfl hl.1 rfl (Nat.le_of_ble_eq_true rfl) dX1_lay_57 ⟨Nat.le_of_ble_eq_true rfl, Nat.le_of_ble_eq_true rfl⟩ (fun r57 hw57 H locs hP hS => ?_)
          subst hw57
          refine lv_istore_n (lv' := [(2, .int (iI (tr_hd B))), (0, .ref (h 0)), (1, .int (nI r)), (3, .int (nI A1.length))]) hx hb dX1_lay_60 rfl hl (by decide) rfl (fun ls hl => ?_)
          refine lv_iinc (v := (nI (A1.length + 1))) (lv' := [(3, .int (nI (A1.length + 1))), (2, .int (iI (tr_hd B))), (0, .ref (h 0)), (1, .int (nI r))]) hx hb dX1_lay_61 hl (k := 3) rfl (nI_inc _) (by decide) rfl (fun ls hl => ?_)
          refine lv_goto (tgt := 15) hx hb dX1_lay_64 (by decide) ?_
          exact ih (A1 ++ [b], B, w) ⟨by dsimp only; rw [hrow]; simp, hRw, (by dsimp only; rw [hf1]; exact hsh), (by dsimp only; rw [hf1]; exact htx)⟩ (Nat.lt_succ_self _) H locs ls hP hD hS (by rw [show (A1 ++ [b], B, w).1.length = A1.length + 1 by simp]; exact lv_sub hl [2, 3, 1, 0] rfl)
        · skip
          have hf1 : (A1 ++ [b]).filter (fun c => !S.tk r c) = A1.filter (fun c => !S.tk r c) ++ [b] := by
            rw [List.filter_append, List.filter_cons_of_pos (by rw [c31]; rfl), List.filter_nil]
          refine lv_aload_n hx hb dX1_lay_34 rfl (lv_at hl 0 rfl) ?_
          refine tr_mg (x := .ref (h 8)) S0 hK hP 8 (by decide) q163 rfl rfl dX1_lay_35 ?_
          refine lv_aload_n hx hb dX1_lay_38 rfl (lv_at hl 0 rfl) ?_
          refine tr_mg (x := .int (nI ((A1.filter (fun c => !S.tk r c)).length))) S0 hK hP 7 (by decide) q162 rfl (by rw [← hsh]; rfl) dX1_lay_39 ?_
          refine lv_iload_n hx hb dX1_lay_42 rfl (lv_at hl 2 rfl) ?_
          refine tr_topv (y := (nI b)) (iI_s b) ?_
          refine tr_ast (ws' := wM h cI cZ (sM w 8 ((A1.filter (fun c => !S.tk r c)).length) (nI b))) hx hb hK hP hD hS 7 0 rfl rfl (by decide) (by omega) rfl dX1_lay_43 (fun H locs hP hD hS => ?_)
          refine lv_aload_n hx hb dX1_lay_44 rfl (lv_at hl 0 rfl) ?_
          refine lv_dup hx hb dX1_lay_45 rfl ?_
          refine tr_mg (x := .int (nI ((A1.filter (fun c => !S.tk r c)).length))) S0 hK hP 7 (by decide) q162 rfl (by rw [← hsh]; rfl) dX1_lay_46 ?_
          refine lv_iconst (v := (nI 1)) hx hb dX1_lay_49 (by decide +kernel) ?_
          refine tr_iadd (z := (nI ((A1.filter (fun c => !S.tk r c)).length + 1))) hx hb dX1_lay_50 (nI_add _ _) ?_
          refine tr_mp7 S0 hK hP hD hS q162 dX1_lay_51 (fun H locs hP hD hS => ?_)
          have hP : va_P D tr_cl (wM h cI cZ (w.1, nI ((A1.filter (fun c => !S.tk r c)).length + 1), (sM w 8 (A1.filter (fun c => !S.tk r c)).length (nI b)).2.2)) H := hP
          have hD : va_D A (wM h cI cZ (w.1, nI ((A1.filter (fun c => !S.tk r c)).length + 1), (sM w 8 (A1.filter (fun c => !S.tk r c)).length (nI b)).2.2)) := hD
          have hR2 : RepM S (w.1, nI ((A1.filter (fun c => !S.tk r c)).length + 1), (sM w 8 (A1.filter (fun c => !S.tk r c)).length (nI b)).2.2) := hRw.scratch rfl (fun k hk => tr_vn (by omega))
          have hsh2 : (w.1, nI ((A1.filter (fun c => !S.tk r c)).length + 1), (sM w 8 (A1.filter (fun c => !S.tk r c)).length (nI b)).2.2).2.1 = nI ((A1.filter (fun c => !S.tk r c)) ++ [b]).length := by
            rw [List.length_append]
            rfl
          have htx2 : ∀ j, j < ((A1.filter (fun c => !S.tk r c)) ++ [b]).length → (w.1, nI ((A1.filter (fun c => !S.tk r c)).length + 1), (sM w 8 (A1.filter (fun c => !S.tk r c)).length (nI b)).2.2).2.2 8 j = nI (((A1.filter (fun c => !S.tk r c)) ++ [b]).getD j 0) := by
            intro j hj
            rw [List.length_append, List.length_cons, List.length_nil] at hj
            show upd (w.2.2 8) (A1.filter (fun c => !S.tk r c)).length (nI b) j = _
            by_cases e : j = (A1.filter (fun c => !S.tk r c)).length
            · rw [e, tr_u_s, List.getD_eq_getElem?_getD, List.getElem?_append_right (Nat.le_refl _), Nat.sub_self]
              rfl
            · rw [tr_u_n e, htx j (by omega), List.getD_eq_getElem?_getD, List.getD_eq_getElem?_getD, List.getElem?_append_left (by omega)]
          generalize (w.1, nI ((A1.filter (fun c => !S.tk r c)).length + 1), (sM w 8 (A1.filter (fun c => !S.tk r c)).length (nI b)).2.2) = w2 at hR2 hsh2 htx2 hP hD
          refine lv_aload_n hx hb dX1_lay_54 rfl (lv_at hl 0 rfl) ?_
          refine lv_iload_n hx hb dX1_lay_55 rfl (lv_at hl 1 rfl) ?_
          refine lv_iload_n hx hb dX1_lay_56 rfl (lv_at hl 2 rfl) ?_
          refine tr_topv (y := (nI b)) (iI_s b) ?_
          refine tr_callR (As := [.int (nI r), .int (nI b)]) (rest := []) S0 (tr_M_next l D h cI cZ S w2 hR2 hI r b A1 B hr hrow) 2 (lw_V q210 q212 qs13 q18 q213) (by decide +kernel) ⟨Nat.le_of_ble_eq_true rfl, Nat.le_of_ble_eq_true rfl⟩ hK hP hD hS hA rfl rfl rfl hl.1 rfl (Nat.le_of_ble_eq_true rfl) dX1_lay_57 ⟨Nat.le_of_ble_eq_true rfl, Nat.le_of_ble_eq_true rfl⟩ (fun r57 hw57 H locs hP hS => ?_)
          subst hw57
          refine lv_istore_n (lv' := [(2, .int (iI (tr_hd B))), (0, .ref (h 0)), (1, .int (nI r)), (3, .int (nI A1.length))]) hx hb dX1_lay_60 rfl hl (by decide) rfl (fun ls hl => ?_)
          refine lv_iinc (v := (nI (A1.length + 1))) (lv' := [(3, .int (nI (A1.length + 1))), (2, .int (iI (tr_hd B))), (0, .ref (h 0)), (1, .int (nI r))]) hx hb dX1_lay_61 hl (k := 3) rfl (nI_inc _) (by decide) rfl (fun ls hl => ?_)
          refine lv_goto (tgt := 15) hx hb dX1_lay_64 (by decide) ?_
          exact ih (A1 ++ [b], B, w2) ⟨by dsimp only; rw [hrow]; simp, hR2, (by dsimp only; rw [hf1]; exact hsh2), (by dsimp only; rw [hf1]; exact htx2)⟩ (Nat.lt_succ_self _) H locs ls hP hD hS (by rw [show (A1 ++ [b], B, w2).1.length = A1.length + 1 by simp]; exact lv_sub hl [2, 3, 1, 0] rfl)
set_option maxHeartbeats 4000000 in
theorem tr_M_length (l : Launch) (D : va_G) (h : Nat → Nat) (cI cZ : ClassId) (S : TS) (v : MW) (hR : RepM S v) (hI : tr_Inv S) (x : Int32) : tr_MI l yX1_length cX1_length 2 (some .int) 4 97 D tr_cl (tr_ty cI cZ) (wM h cI cZ) [.ref (h 0), .int x] v (fun z w => z = tr_lenA S x ∧ RepM S w) := by
  refine tr_enterI RX1 rfl (by decide) (Nat.le_of_ble_eq_true rfl) ?_
  intro p e s m below meth c0 A ls S0 hret hlk hK hP hD hS hA hl
  have hx := S0.1
  have hb := S0.2.1
  have hl : lv_has ls 2 [(0, .ref (h 0)), (1, .int x)] := hl
  refine lv_iload_n hx hb dX1_length_0 rfl (lv_at hl 1 rfl) ?_
  refine tr_callS (As := [.int x]) (rest := []) S0 (tr_M_bad l x) 1 (lw_S q187 q188 q18 q189) (by decide +kernel) ⟨Nat.le_of_ble_eq_true rfl, Nat.le_of_ble_eq_true rfl⟩ hP hS hA rfl hl.1 rfl (Nat.le_of_ble_eq_true rfl) dX1_length_1 ⟨Nat.le_of_ble_eq_true rfl, Nat.le_of_ble_eq_true rfl⟩ (fun r1 hw1 H locs hP hS => ?_)
  subst hw1
  refine tr_feqB (tgt := 9) hx hb dX1_length_4 (by decide) (fun c4 => ?_) (fun c4 => ?_)
  · skip
    obtain ⟨r, hr, rfl⟩ := tr_ok_n (tr_nf c4)
    refine lv_aload_n hx hb dX1_length_9 rfl (lv_at hl 0 rfl) ?_
    refine lv_iload_n hx hb dX1_length_10 rfl (lv_at hl 1 rfl) ?_
    refine tr_callV (As := [.int (nI r)]) (rest := []) S0 (tr_M_lay l D h cI cZ S v hR hI.1 r hr) 1 (lw_V q190 q192 qs8 q18 q193) (by decide +kernel) ⟨Nat.le_of_ble_eq_true rfl, Nat.le_of_ble_eq_true rfl⟩ hK hP hD hS hA rfl rfl rfl hl.1 rfl (Nat.le_of_ble_eq_true rfl) dX1_length_11 ⟨Nat.le_of_ble_eq_true rfl, Nat.le_of_ble_eq_true rfl⟩ (fun w H locs hw11 hP hD hS => ?_)
    obtain ⟨hRw, hsh, htx⟩ := hw11
    refine lv_aload_n hx hb dX1_length_14 rfl (lv_at hl 0 rfl) ?_
    refine tr_mg (x := .int (nI ((tr_tx S r).length))) S0 hK hP 7 (by decide) q162 rfl (by rw [← hsh]; rfl) dX1_length_15 ?_
    exact tr_iret (wv := wM h cI cZ) (u := w) hx hb hret hlk hK hP hD hS dX1_length_18 (⟨(tr_lenA_2 hr).symm, hRw⟩)
  · skip
    refine lv_iconst (v := (iI 0)) hx hb dX1_length_7 (by decide +kernel) ?_
    exact tr_iret (wv := wM h cI cZ) (u := v) hx hb hret hlk hK hP hD hS dX1_length_8 (⟨(tr_lenA_1 (tr_nt c4)).symm, hR⟩)

set_option maxHeartbeats 4000000 in
theorem tr_M_letter (l : Launch) (D : va_G) (h : Nat → Nat) (cI cZ : ClassId) (S : TS) (v : MW) (hR : RepM S v) (hI : tr_Inv S) (x y : Int32) : tr_MI l yX1_letter cX1_letter 3 (some .int) 4 97 D tr_cl (tr_ty cI cZ) (wM h cI cZ) [.ref (h 0), .int x, .int y] v (fun z w => z = tr_letA S x y ∧ RepM S w) := by
  refine tr_enterI RX1 rfl (by decide) (Nat.le_of_ble_eq_true rfl) ?_
  intro p e s m below meth c0 A ls S0 hret hlk hK hP hD hS hA hl
  have hx := S0.1
  have hb := S0.2.1
  have hl : lv_has ls 3 [(0, .ref (h 0)), (1, .int x), (2, .int y)] := hl
  refine lv_iload_n hx hb dX1_letter_0 rfl (lv_at hl 1 rfl) ?_
  refine tr_callS (As := [.int x]) (rest := []) S0 (tr_M_bad l x) 1 (lw_S q187 q188 q18 q189) (by decide +kernel) ⟨Nat.le_of_ble_eq_true rfl, Nat.le_of_ble_eq_true rfl⟩ hP hS hA rfl hl.1 rfl (Nat.le_of_ble_eq_true rfl) dX1_letter_1 ⟨Nat.le_of_ble_eq_true rfl, Nat.le_of_ble_eq_true rfl⟩ (fun r1 hw1 H locs hP hS => ?_)
  subst hw1
  refine tr_feqB (tgt := 9) hx hb dX1_letter_4 (by decide) (fun c4 => ?_) (fun c4 => ?_)
  · skip
    obtain ⟨r, hr, rfl⟩ := tr_ok_n (tr_nf c4)
    have hrl := hI.1.rowlen hr
    have htl := tr_tx_le S r
    have hn48 := hI.1.1.1
    refine lv_aload_n hx hb dX1_letter_9 rfl (lv_at hl 0 rfl) ?_
    refine lv_iload_n hx hb dX1_letter_10 rfl (lv_at hl 1 rfl) ?_
    refine tr_callV (As := [.int (nI r)]) (rest := []) S0 (tr_M_lay l D h cI cZ S v hR hI.1 r hr) 1 (lw_V q190 q192 qs8 q18 q193) (by decide +kernel) ⟨Nat.le_of_ble_eq_true rfl, Nat.le_of_ble_eq_true rfl⟩ hK hP hD hS hA rfl rfl rfl hl.1 rfl (Nat.le_of_ble_eq_true rfl) dX1_letter_11 ⟨Nat.le_of_ble_eq_true rfl, Nat.le_of_ble_eq_true rfl⟩ (fun w H locs hw11 hP hD hS => ?_)
    obtain ⟨hRw, hsh, htx⟩ := hw11
    refine lv_iload_n hx hb dX1_letter_14 rfl (lv_at hl 2 rfl) ?_
    refine lv_if_lt (tgt := 26) hx hb dX1_letter_15 (by decide) (fun c15 => ?_) (fun c15 => ?_)
    · skip
      refine lv_iconst (v := (nI 0)) hx hb dX1_letter_26 (by decide +kernel) ?_
      refine lv_goto (tgt := 41) hx hb dX1_letter_27 (by decide) ?_
      exact tr_iret (wv := wM h cI cZ) (u := w) hx hb hret hlk hK hP hD hS dX1_letter_41 (⟨(tr_letA_2 c15).symm, hRw⟩)
    · skip
      obtain ⟨q, hq, rfl⟩ := nI_of c15
      refine lv_iload_n hx hb dX1_letter_18 rfl (lv_at hl 2 rfl) ?_
      refine lv_aload_n hx hb dX1_letter_19 rfl (lv_at hl 0 rfl) ?_
      refine tr_mg (x := .int (nI ((tr_tx S r).length))) S0 hK hP 7 (by decide) q162 rfl (by rw [← hsh]; rfl) dX1_letter_20 ?_
      refine tr_clt (tgt := 30) hx hb dX1_letter_23 (by decide) (by omega) (by omega) (fun c23 => ?_) (fun c23 => ?_)
      · skip
        have hm := tr_tx_row (tr_getD_mem c23)
        have hm2 := hI.1.rows r hr _ hm
        have hm48 := hI.1.id r hr _ hm
        refine lv_aload_n hx hb dX1_letter_30 rfl (lv_at hl 0 rfl) ?_
        refine tr_mg (x := .ref (h 3)) S0 hK hP 3 (by decide) q158 rfl rfl dX1_letter_31 ?_
        refine lv_aload_n hx hb dX1_letter_34 rfl (lv_at hl 0 rfl) ?_
        refine tr_mg (x := .ref (h 8)) S0 hK hP 8 (by decide) q163 rfl rfl dX1_letter_35 ?_
        refine lv_iload_n hx hb dX1_letter_38 rfl (lv_at hl 2 rfl) ?_
        refine tr_ald (v := (nI ((tr_tx S r).getD q 0))) hx hb hK hP 7 0 rfl rfl (by decide) (by omega) (htx q c23) dX1_letter_39 ?_
        refine tr_ald (v := ((S.le ((tr_tx S r).getD q 0)))) hx hb hK hP 3 0 rfl rfl (by decide) (by omega) (hRw.le _ hm2.1 hm2.2) dX1_letter_40 ?_
        exact tr_iret (wv := wM h cI cZ) (u := w) hx hb hret hlk hK hP hD hS dX1_letter_41 (⟨(tr_letA_4 hr hq c23 (by omega)).symm, hRw⟩)
      · skip
        refine lv_iconst (v := (nI 0)) hx hb dX1_letter_26 (by decide +kernel) ?_
        refine lv_goto (tgt := 41) hx hb dX1_letter_27 (by decide) ?_
        exact tr_iret (wv := wM h cI cZ) (u := w) hx hb hret hlk hK hP hD hS dX1_letter_41 (⟨(tr_letA_3 hr hq c23).symm, hRw⟩)
  · skip
    refine lv_iconst (v := (nI 0)) hx hb dX1_letter_7 (by decide +kernel) ?_
    exact tr_iret (wv := wM h cI cZ) (u := v) hx hb hret hlk hK hP hD hS dX1_letter_8 (⟨(tr_letA_1 (tr_nt c4)).symm, hR⟩)

set_option maxHeartbeats 4000000 in
theorem tr_M_make (l : Launch) (D : va_G) (h : Nat → Nat) (cI cZ : ClassId) (S : TS) (v : MW) (hR : RepM S v) (hI : tr_Inv S) (r a : Nat) (b : Bool) (x : Int32) (hr : r < 3) (hn : S.n < 48) (hI2 : tr_Inv (tr_learn (tr_new S r b a x (S.gr r + 1)) r S.n)) : tr_MI l yX1_make cX1_make 5 (some .int) 5 118 D tr_cl (tr_ty cI cZ) (wM h cI cZ) [.ref (h 0), .int (nI r), .int (bI b), .int (iI a), .int x] v (fun z w => z = nI (tr_tx (tr_learn (tr_new S r b a x (S.gr r + 1)) r S.n) r).length ∧ RepM (tr_learn (tr_new S r b a x (S.gr r + 1)) r S.n) w) := by
  refine tr_enterI RX1 rfl (by decide) (Nat.le_of_ble_eq_true rfl) ?_
  intro p e s m below meth c0 A ls S0 hret hlk hK hP hD hS hA hl
  have hx := S0.1
  have hb := S0.2.1
  have hl : lv_has ls 5 [(0, .ref (h 0)), (1, .int (nI r)), (2, .int (bI b)), (3, .int (iI a)), (4, .int x)] := hl
  refine lv_aload_n hx hb dX1_make_0 rfl (lv_at hl 0 rfl) ?_
  refine tr_mg (x := .ref (h 1)) S0 hK hP 1 (by decide) q156 rfl rfl dX1_make_1 ?_
  refine lv_aload_n hx hb dX1_make_4 rfl (lv_at hl 0 rfl) ?_
  refine tr_mg (x := .int (nI S.n)) S0 hK hP 0 (by decide) q155 rfl (by rw [← hR.made]; rfl) dX1_make_5 ?_
  refine lv_iload_n hx hb dX1_make_8 rfl (lv_at hl 1 rfl) ?_
  refine tr_ast (ws' := wM h cI cZ (sM v 1 S.n (nI r))) hx hb hK hP hD hS 1 0 rfl rfl (by decide) (by omega) rfl dX1_make_9 (fun H locs hP hD hS => ?_)
  refine lv_aload_n hx hb dX1_make_10 rfl (lv_at hl 0 rfl) ?_
  refine tr_mg (x := .ref (h 2)) S0 hK hP 2 (by decide) q157 rfl rfl dX1_make_11 ?_
  refine lv_aload_n hx hb dX1_make_14 rfl (lv_at hl 0 rfl) ?_
  refine tr_mg (x := .int (nI S.n)) S0 hK hP 0 (by decide) q155 rfl (by rw [← hR.made]; rfl) dX1_make_15 ?_
  refine lv_iload_n hx hb dX1_make_18 rfl (lv_at hl 2 rfl) ?_
  refine tr_zst (ws' := wM h cI cZ (sM (sM v 1 S.n (nI r)) 2 S.n (bI b))) hx hb hK hP hD hS 2 1 rfl rfl (by decide) (by omega) (bI_nar _) rfl dX1_make_19 (fun H locs hP hD hS => ?_)
  refine lv_aload_n hx hb dX1_make_20 rfl (lv_at hl 0 rfl) ?_
  refine tr_mg (x := .ref (h 4)) S0 hK hP 4 (by decide) q159 rfl rfl dX1_make_21 ?_
  refine lv_aload_n hx hb dX1_make_24 rfl (lv_at hl 0 rfl) ?_
  refine tr_mg (x := .int (nI S.n)) S0 hK hP 0 (by decide) q155 rfl (by rw [← hR.made]; rfl) dX1_make_25 ?_
  refine lv_iload_n hx hb dX1_make_28 rfl (lv_at hl 3 rfl) ?_
  refine tr_ast (ws' := wM h cI cZ (sM (sM (sM v 1 S.n (nI r)) 2 S.n (bI b)) 4 S.n (iI a))) hx hb hK hP hD hS 4 0 rfl rfl (by decide) (by omega) rfl dX1_make_29 (fun H locs hP hD hS => ?_)
  refine lv_aload_n hx hb dX1_make_30 rfl (lv_at hl 0 rfl) ?_
  refine tr_mg (x := .ref (h 3)) S0 hK hP 3 (by decide) q158 rfl rfl dX1_make_31 ?_
  refine lv_aload_n hx hb dX1_make_34 rfl (lv_at hl 0 rfl) ?_
  refine tr_mg (x := .int (nI S.n)) S0 hK hP 0 (by decide) q155 rfl (by rw [← hR.made]; rfl) dX1_make_35 ?_
  refine lv_iload hx hb dX1_make_38 (lv_at hl 4 rfl) ?_
  refine tr_ast (ws' := wM h cI cZ (sM (sM (sM (sM v 1 S.n (nI r)) 2 S.n (bI b)) 4 S.n (iI a)) 3 S.n x)) hx hb hK hP hD hS 3 0 rfl rfl (by decide) (by omega) rfl dX1_make_40 (fun H locs hP hD hS => ?_)
  have hR4 : RepM S (sM (sM (sM (sM v 1 S.n (nI r)) 2 S.n (bI b)) 4 S.n (iI a)) 3 S.n x) := hR.ahead rfl (fun k hk c hc => by match k, hk with | 0, _ => rfl | 1, _ => exact tr_u_n (by omega) | 2, _ => exact tr_u_n (by omega) | 3, _ => exact tr_u_n (by omega) | 4, _ => exact tr_u_n (by omega) | 5, _ => rfl | k + 6, hk => exact absurd hk (by omega)) rfl
  refine lv_aload_n hx hb dX1_make_41 rfl (lv_at hl 0 rfl) ?_
  refine tr_mg (x := .ref (h 5)) S0 hK hP 5 (by decide) q160 rfl rfl dX1_make_42 ?_
  refine lv_aload_n hx hb dX1_make_45 rfl (lv_at hl 0 rfl) ?_
  refine tr_mg (x := .int (nI S.n)) S0 hK hP 0 (by decide) q155 rfl (by rw [← hR.made]; rfl) dX1_make_46 ?_
  refine lv_aload_n hx hb dX1_make_49 rfl (lv_at hl 0 rfl) ?_
  refine lv_iload_n hx hb dX1_make_50 rfl (lv_at hl 1 rfl) ?_
  refine tr_callR (As := [.int (nI r)]) (rest := [.int (nI S.n), .ref (h 5)]) S0 (tr_M_greatest l D h cI cZ S (sM (sM (sM (sM v 1 S.n (nI r)) 2 S.n (bI b)) 4 S.n (iI a)) 3 S.n x) hR4 hI.1 r hr) 1 (lw_V q218 q220 qs15 q18 q221) (by decide +kernel) ⟨Nat.le_of_ble_eq_true rfl, Nat.le_of_ble_eq_true rfl⟩ hK hP hD hS hA rfl rfl rfl hl.1 rfl (Nat.le_of_ble_eq_true rfl) dX1_make_51 ⟨Nat.le_of_ble_eq_true rfl, Nat.le_of_ble_eq_true rfl⟩ (fun r51 hw51 H locs hP hS => ?_)
  subst hw51
  refine lv_iconst (v := (nI 1)) hx hb dX1_make_54 (by decide +kernel) ?_
  refine tr_iadd (z := (nI (S.gr r + 1))) hx hb dX1_make_55 (nI_add _ _) ?_
  refine tr_ast (ws' := wM h cI cZ (sM (sM (sM (sM (sM v 1 S.n (nI r)) 2 S.n (bI b)) 4 S.n (iI a)) 3 S.n x) 5 S.n (nI (S.gr r + 1)))) hx hb hK hP hD hS 5 0 rfl rfl (by decide) (by omega) rfl dX1_make_56 (fun H locs hP hD hS => ?_)
  refine lv_aload_n hx hb dX1_make_57 rfl (lv_at hl 0 rfl) ?_
  refine tr_mg (x := .ref (h 6)) S0 hK hP 6 (by decide) q161 rfl rfl dX1_make_58 ?_
  refine lv_bipush (v := (nI 48)) hx hb dX1_make_61 (by decide +kernel) ?_
  refine lv_iload_n hx hb dX1_make_63 rfl (lv_at hl 1 rfl) ?_
  refine tr_imul (z := (nI (48 * r))) hx hb dX1_make_64 (pk_mul _ _) ?_
  refine lv_aload_n hx hb dX1_make_65 rfl (lv_at hl 0 rfl) ?_
  refine tr_mg (x := .int (nI S.n)) S0 hK hP 0 (by decide) q155 rfl (by rw [← hR.made]; rfl) dX1_make_66 ?_
  refine tr_iadd (z := (nI (48 * r + S.n))) hx hb dX1_make_69 (nI_add _ _) ?_
  refine lv_iconst (v := (bI true)) hx hb dX1_make_70 (by decide +kernel) ?_
  refine tr_zst (ws' := wM h cI cZ (sM (sM (sM (sM (sM (sM v 1 S.n (nI r)) 2 S.n (bI b)) 4 S.n (iI a)) 3 S.n x) 5 S.n (nI (S.gr r + 1))) 6 (48 * r + S.n) (bI true))) hx hb hK hP hD hS 6 1 rfl rfl (by decide) (by omega) (bI_nar _) rfl dX1_make_71 (fun H locs hP hD hS => ?_)
  refine lv_aload_n hx hb dX1_make_72 rfl (lv_at hl 0 rfl) ?_
  refine lv_dup hx hb dX1_make_73 rfl ?_
  refine tr_mg (x := .int (nI S.n)) S0 hK hP 0 (by decide) q155 rfl (by rw [← hR.made]; rfl) dX1_make_74 ?_
  refine lv_iconst (v := (nI 1)) hx hb dX1_make_77 (by decide +kernel) ?_
  refine tr_iadd (z := (nI (S.n + 1))) hx hb dX1_make_78 (nI_add _ _) ?_
  refine tr_mp0 S0 hK hP hD hS q155 dX1_make_79 (fun H locs hP hD hS => ?_)
  have hP : va_P D tr_cl (wM h cI cZ (nI (S.n + 1), (sM (sM (sM (sM (sM (sM v 1 S.n (nI r)) 2 S.n (bI b)) 4 S.n (iI a)) 3 S.n x) 5 S.n (nI (S.gr r + 1))) 6 (48 * r + S.n) (bI true)).2)) H := hP
  have hD : va_D A (wM h cI cZ (nI (S.n + 1), (sM (sM (sM (sM (sM (sM v 1 S.n (nI r)) 2 S.n (bI b)) 4 S.n (iI a)) 3 S.n x) 5 S.n (nI (S.gr r + 1))) 6 (48 * r + S.n) (bI true)).2)) := hD
  have hR7 : RepM (tr_learn (tr_new S r b a x (S.gr r + 1)) r S.n) (nI (S.n + 1), (sM (sM (sM (sM (sM (sM v 1 S.n (nI r)) 2 S.n (bI b)) 4 S.n (iI a)) 3 S.n x) 5 S.n (nI (S.gr r + 1))) 6 (48 * r + S.n) (bI true)).2) := hR.make hI hr hn rfl rfl rfl rfl rfl rfl rfl
  generalize (nI (S.n + 1), (sM (sM (sM (sM (sM (sM v 1 S.n (nI r)) 2 S.n (bI b)) 4 S.n (iI a)) 3 S.n x) 5 S.n (nI (S.gr r + 1))) 6 (48 * r + S.n) (bI true)).2) = u7 at hR7 hP hD
  refine lv_aload_n hx hb dX1_make_82 rfl (lv_at hl 0 rfl) ?_
  refine lv_iload_n hx hb dX1_make_83 rfl (lv_at hl 1 rfl) ?_
  refine tr_callI (As := [.int (nI r)]) (rest := []) S0 (tr_M_length l D h cI cZ (tr_learn (tr_new S r b a x (S.gr r + 1)) r S.n) u7 hR7 hI2 (nI r)) 1 (lw_V q222 q223 q224 q18 q225) (by decide +kernel) ⟨Nat.le_of_ble_eq_true rfl, Nat.le_of_ble_eq_true rfl⟩ hK hP hD hS hA rfl rfl rfl hl.1 rfl (Nat.le_of_ble_eq_true rfl) dX1_make_84 ⟨Nat.le_of_ble_eq_true rfl, Nat.le_of_ble_eq_true rfl⟩ (fun r84 u8 H locs hw84 hP hD hS => ?_)
  exact tr_iret (wv := wM h cI cZ) (u := u8) hx hb hret hlk hK hP hD hS dX1_make_87 (⟨hw84.1.trans (tr_lenA_2 hr), hw84.2⟩)

set_option maxHeartbeats 4000000 in
theorem tr_M_insert (l : Launch) (D : va_G) (h : Nat → Nat) (cI cZ : ClassId) (S : TS) (v : MW) (hR : RepM S v) (hI : tr_Inv S) (x y z : Int32) : tr_MI l yX1_insert cX1_insert 5 (some .int) 6 142 D tr_cl (tr_ty cI cZ) (wM h cI cZ) [.ref (h 0), .int x, .int y, .int z] v (fun k w => k = (tr_insA S x y z).1 ∧ RepM (tr_insA S x y z).2 w) := by
  refine tr_enterI RX1 rfl (by decide) (Nat.le_of_ble_eq_true rfl) ?_
  intro p e s m below meth c0 A ls S0 hret hlk hK hP hD hS hA hl
  have hx := S0.1
  have hb := S0.2.1
  have hl : lv_has ls 5 [(0, .ref (h 0)), (1, .int x), (2, .int y), (3, .int z)] := hl
  refine lv_iload_n hx hb dX1_insert_0 rfl (lv_at hl 1 rfl) ?_
  refine tr_callS (As := [.int x]) (rest := []) S0 (tr_M_bad l x) 1 (lw_S q187 q188 q18 q189) (by decide +kernel) ⟨Nat.le_of_ble_eq_true rfl, Nat.le_of_ble_eq_true rfl⟩ hP hS hA rfl hl.1 rfl (Nat.le_of_ble_eq_true rfl) dX1_insert_1 ⟨Nat.le_of_ble_eq_true rfl, Nat.le_of_ble_eq_true rfl⟩ (fun r1 hw1 H locs hP hS => ?_)
  subst hw1
  refine tr_feqB (tgt := 9) hx hb dX1_insert_4 (by decide) (fun c4 => ?_) (fun c4 => ?_)
  · skip
    obtain ⟨r, hr, rfl⟩ := tr_ok_n (tr_nf c4)
    have hrl := hI.1.rowlen hr
    have htl := tr_tx_le S r
    have hn48 := hI.1.1.1
    refine lv_aload_n hx hb dX1_insert_9 rfl (lv_at hl 0 rfl) ?_
    refine lv_iload_n hx hb dX1_insert_10 rfl (lv_at hl 1 rfl) ?_
    refine tr_callV (As := [.int (nI r)]) (rest := []) S0 (tr_M_lay l D h cI cZ S v hR hI.1 r hr) 1 (lw_V q190 q192 qs8 q18 q193) (by decide +kernel) ⟨Nat.le_of_ble_eq_true rfl, Nat.le_of_ble_eq_true rfl⟩ hK hP hD hS hA rfl rfl rfl hl.1 rfl (Nat.le_of_ble_eq_true rfl) dX1_insert_11 ⟨Nat.le_of_ble_eq_true rfl, Nat.le_of_ble_eq_true rfl⟩ (fun w H locs hw11 hP hD hS => ?_)
    obtain ⟨hRw, hsh, htx⟩ := hw11
    refine lv_iload_n hx hb dX1_insert_14 rfl (lv_at hl 2 rfl) ?_
    refine lv_if_lt (tgt := 35) hx hb dX1_insert_15 (by decide) (fun c15 => ?_) (fun c15 => ?_)
    · skip
      refine lv_iconst (v := (iI 0)) hx hb dX1_insert_35 (by decide +kernel) ?_
      exact tr_iret (wv := wM h cI cZ) (u := w) hx hb hret hlk hK hP hD hS dX1_insert_36 (⟨by rw [tr_insA_2 c15], by rw [tr_insA_2 c15]; exact hRw⟩)
    · skip
      obtain ⟨q, hq, rfl⟩ := nI_of c15
      refine lv_iload_n hx hb dX1_insert_18 rfl (lv_at hl 2 rfl) ?_
      refine lv_aload_n hx hb dX1_insert_19 rfl (lv_at hl 0 rfl) ?_
      refine tr_mg (x := .int (nI ((tr_tx S r).length))) S0 hK hP 7 (by decide) q162 rfl (by rw [← hsh]; rfl) dX1_insert_20 ?_
      refine tr_cgt (tgt := 35) hx hb dX1_insert_23 (by decide) (by omega) (by omega) (fun c23 => ?_) (fun c23 => ?_)
      · skip
        refine lv_iconst (v := (iI 0)) hx hb dX1_insert_35 (by decide +kernel) ?_
        exact tr_iret (wv := wM h cI cZ) (u := w) hx hb hret hlk hK hP hD hS dX1_insert_36 (⟨by rw [tr_insA_3 hr hq c23], by rw [tr_insA_3 hr hq c23]; exact hRw⟩)
      · skip
        refine lv_aload_n hx hb dX1_insert_26 rfl (lv_at hl 0 rfl) ?_
        refine tr_mg (x := .int (nI S.n)) S0 hK hP 0 (by decide) q155 rfl (by rw [← hRw.made]; rfl) dX1_insert_27 ?_
        refine lv_bipush (v := (nI 48)) hx hb dX1_insert_30 (by decide +kernel) ?_
        refine tr_cne (tgt := 37) hx hb dX1_insert_32 (by decide) (by omega) (by omega) (fun c32 => ?_) (fun c32 => ?_)
        · skip
          have hlt : S.n < 48 := by omega
          refine lv_iload_n hx hb dX1_insert_37 rfl (lv_at hl 2 rfl) ?_
          refine tr_fneN (tgt := 45) hx hb dX1_insert_38 (by decide) (by omega) (fun c38 => ?_) (fun c38 => ?_)
          · skip
            refine lv_aload_n hx hb dX1_insert_45 rfl (lv_at hl 0 rfl) ?_
            refine tr_mg (x := .ref (h 8)) S0 hK hP 8 (by decide) q163 rfl rfl dX1_insert_46 ?_
            refine lv_iload_n hx hb dX1_insert_49 rfl (lv_at hl 2 rfl) ?_
            refine lv_iconst (v := (nI 1)) hx hb dX1_insert_50 (by decide +kernel) ?_
            refine tr_isub (z := (nI (q - 1))) hx hb dX1_insert_51 (pk_sub (by omega)) ?_
            refine tr_ald (v := (iI (tr_insV S r q))) hx hb hK hP 7 0 rfl rfl (by decide) (by omega) (by rw [show tr_insV S r q = (tr_tx S r).getD (q - 1) 0 + 1 from if_neg c38, iI_s]; exact htx (q - 1) (by omega)) dX1_insert_52 ?_
            refine lv_istore (lv' := [(4, .int (iI (tr_insV S r q))), (0, .ref (h 0)), (1, .int (nI r)), (2, .int (nI q)), (3, .int z)]) hx hb dX1_insert_53 hl (by decide) rfl (fun ls hl => ?_)
            refine lv_aload_n hx hb dX1_insert_55 rfl (lv_at hl 1 rfl) ?_
            refine lv_iload_n hx hb dX1_insert_56 rfl (lv_at hl 2 rfl) ?_
            refine lv_iconst (v := (bI true)) hx hb dX1_insert_57 (by decide +kernel) ?_
            refine lv_iload hx hb dX1_insert_58 (lv_at hl 0 rfl) ?_
            refine lv_iload_n hx hb dX1_insert_60 rfl (lv_at hl 4 rfl) ?_
            refine tr_callI (As := [.int (nI r), .int (bI true), .int (iI (tr_insV S r q)), .int z]) (rest := []) S0 (tr_M_make l D h cI cZ S w hRw hI r (tr_insV S r q) true z hr hlt (tr_Inv_make hI hr hlt (fun e => by cases e) (tr_insV_mem c23) (fun _ => rfl))) 4 (lw_V q214 q216 qs14 q18 q217) (by decide +kernel) ⟨Nat.le_of_ble_eq_true rfl, Nat.le_of_ble_eq_true rfl⟩ hK hP hD hS hA rfl rfl rfl hl.1 rfl (Nat.le_of_ble_eq_true rfl) dX1_insert_61 ⟨Nat.le_of_ble_eq_true rfl, Nat.le_of_ble_eq_true rfl⟩ (fun r61 u2 H locs hw61 hP hD hS => ?_)
            exact tr_iret (wv := wM h cI cZ) (u := u2) hx hb hret hlk hK hP hD hS dX1_insert_64 (⟨by rw [tr_insA_5 hr hq c23 (by omega) hlt]; exact hw61.1, by rw [tr_insA_5 hr hq c23 (by omega) hlt]; exact hw61.2⟩)
          · skip
            refine lv_iconst (v := (iI 0)) hx hb dX1_insert_41 (by decide +kernel) ?_
            refine tr_topv (y := (iI (tr_insV S r q))) (by rw [show tr_insV S r q = 0 from if_pos c38]) ?_
            refine lv_goto (tgt := 53) hx hb dX1_insert_42 (by decide) ?_
            refine lv_istore (lv' := [(4, .int (iI (tr_insV S r q))), (0, .ref (h 0)), (1, .int (nI r)), (2, .int (nI q)), (3, .int z)]) hx hb dX1_insert_53 hl (by decide) rfl (fun ls hl => ?_)
            refine lv_aload_n hx hb dX1_insert_55 rfl (lv_at hl 1 rfl) ?_
            refine lv_iload_n hx hb dX1_insert_56 rfl (lv_at hl 2 rfl) ?_
            refine lv_iconst (v := (bI true)) hx hb dX1_insert_57 (by decide +kernel) ?_
            refine lv_iload hx hb dX1_insert_58 (lv_at hl 0 rfl) ?_
            refine lv_iload_n hx hb dX1_insert_60 rfl (lv_at hl 4 rfl) ?_
            refine tr_callI (As := [.int (nI r), .int (bI true), .int (iI (tr_insV S r q)), .int z]) (rest := []) S0 (tr_M_make l D h cI cZ S w hRw hI r (tr_insV S r q) true z hr hlt (tr_Inv_make hI hr hlt (fun e => by cases e) (tr_insV_mem c23) (fun _ => rfl))) 4 (lw_V q214 q216 qs14 q18 q217) (by decide +kernel) ⟨Nat.le_of_ble_eq_true rfl, Nat.le_of_ble_eq_true rfl⟩ hK hP hD hS hA rfl rfl rfl hl.1 rfl (Nat.le_of_ble_eq_true rfl) dX1_insert_61 ⟨Nat.le_of_ble_eq_true rfl, Nat.le_of_ble_eq_true rfl⟩ (fun r61 u2 H locs hw61 hP hD hS => ?_)
            exact tr_iret (wv := wM h cI cZ) (u := u2) hx hb hret hlk hK hP hD hS dX1_insert_64 (⟨by rw [tr_insA_5 hr hq c23 (by omega) hlt]; exact hw61.1, by rw [tr_insA_5 hr hq c23 (by omega) hlt]; exact hw61.2⟩)
        · skip
          refine lv_iconst (v := (iI 0)) hx hb dX1_insert_35 (by decide +kernel) ?_
          exact tr_iret (wv := wM h cI cZ) (u := w) hx hb hret hlk hK hP hD hS dX1_insert_36 (⟨by rw [tr_insA_4 (by omega)], by rw [tr_insA_4 (by omega)]; exact hRw⟩)
  · skip
    refine lv_iconst (v := (iI 0)) hx hb dX1_insert_7 (by decide +kernel) ?_
    exact tr_iret (wv := wM h cI cZ) (u := v) hx hb hret hlk hK hP hD hS dX1_insert_8 (⟨by rw [tr_insA_1 (tr_nt c4)], by rw [tr_insA_1 (tr_nt c4)]; exact hR⟩)

set_option maxHeartbeats 4000000 in
theorem tr_M_delete (l : Launch) (D : va_G) (h : Nat → Nat) (cI cZ : ClassId) (S : TS) (v : MW) (hR : RepM S v) (hI : tr_Inv S) (x y : Int32) : tr_MI l yX1_delete cX1_delete 3 (some .int) 6 142 D tr_cl (tr_ty cI cZ) (wM h cI cZ) [.ref (h 0), .int x, .int y] v (fun k w => k = (tr_delA S x y).1 ∧ RepM (tr_delA S x y).2 w) := by
  refine tr_enterI RX1 rfl (by decide) (Nat.le_of_ble_eq_true rfl) ?_
  intro p e s m below meth c0 A ls S0 hret hlk hK hP hD hS hA hl
  have hx := S0.1
  have hb := S0.2.1
  have hl : lv_has ls 3 [(0, .ref (h 0)), (1, .int x), (2, .int y)] := hl
  refine lv_iload_n hx hb dX1_delete_0 rfl (lv_at hl 1 rfl) ?_
  refine tr_callS (As := [.int x]) (rest := []) S0 (tr_M_bad l x) 1 (lw_S q187 q188 q18 q189) (by decide +kernel) ⟨Nat.le_of_ble_eq_true rfl, Nat.le_of_ble_eq_true rfl⟩ hP hS hA rfl hl.1 rfl (Nat.le_of_ble_eq_true rfl) dX1_delete_1 ⟨Nat.le_of_ble_eq_true rfl, Nat.le_of_ble_eq_true rfl⟩ (fun r1 hw1 H locs hP hS => ?_)
  subst hw1
  refine tr_feqB (tgt := 9) hx hb dX1_delete_4 (by decide) (fun c4 => ?_) (fun c4 => ?_)
  · skip
    obtain ⟨r, hr, rfl⟩ := tr_ok_n (tr_nf c4)
    have hrl := hI.1.rowlen hr
    have htl := tr_tx_le S r
    have hn48 := hI.1.1.1
    refine lv_aload_n hx hb dX1_delete_9 rfl (lv_at hl 0 rfl) ?_
    refine lv_iload_n hx hb dX1_delete_10 rfl (lv_at hl 1 rfl) ?_
    refine tr_callV (As := [.int (nI r)]) (rest := []) S0 (tr_M_lay l D h cI cZ S v hR hI.1 r hr) 1 (lw_V q190 q192 qs8 q18 q193) (by decide +kernel) ⟨Nat.le_of_ble_eq_true rfl, Nat.le_of_ble_eq_true rfl⟩ hK hP hD hS hA rfl rfl rfl hl.1 rfl (Nat.le_of_ble_eq_true rfl) dX1_delete_11 ⟨Nat.le_of_ble_eq_true rfl, Nat.le_of_ble_eq_true rfl⟩ (fun w H locs hw11 hP hD hS => ?_)
    obtain ⟨hRw, hsh, htx⟩ := hw11
    refine lv_iload_n hx hb dX1_delete_14 rfl (lv_at hl 2 rfl) ?_
    refine lv_if_lt (tgt := 35) hx hb dX1_delete_15 (by decide) (fun c15 => ?_) (fun c15 => ?_)
    · skip
      refine lv_iconst (v := (iI 0)) hx hb dX1_delete_35 (by decide +kernel) ?_
      exact tr_iret (wv := wM h cI cZ) (u := w) hx hb hret hlk hK hP hD hS dX1_delete_36 (⟨by rw [tr_delA_2 c15], by rw [tr_delA_2 c15]; exact hRw⟩)
    · skip
      obtain ⟨q, hq, rfl⟩ := nI_of c15
      refine lv_iload_n hx hb dX1_delete_18 rfl (lv_at hl 2 rfl) ?_
      refine lv_aload_n hx hb dX1_delete_19 rfl (lv_at hl 0 rfl) ?_
      refine tr_mg (x := .int (nI ((tr_tx S r).length))) S0 hK hP 7 (by decide) q162 rfl (by rw [← hsh]; rfl) dX1_delete_20 ?_
      refine tr_cge (tgt := 35) hx hb dX1_delete_23 (by decide) (by omega) (by omega) (fun c23 => ?_) (fun c23 => ?_)
      · skip
        refine lv_iconst (v := (iI 0)) hx hb dX1_delete_35 (by decide +kernel) ?_
        exact tr_iret (wv := wM h cI cZ) (u := w) hx hb hret hlk hK hP hD hS dX1_delete_36 (⟨by rw [tr_delA_3 hr hq c23], by rw [tr_delA_3 hr hq c23]; exact hRw⟩)
      · skip
        refine lv_aload_n hx hb dX1_delete_26 rfl (lv_at hl 0 rfl) ?_
        refine tr_mg (x := .int (nI S.n)) S0 hK hP 0 (by decide) q155 rfl (by rw [← hRw.made]; rfl) dX1_delete_27 ?_
        refine lv_bipush (v := (nI 48)) hx hb dX1_delete_30 (by decide +kernel) ?_
        refine tr_cne (tgt := 37) hx hb dX1_delete_32 (by decide) (by omega) (by omega) (fun c32 => ?_) (fun c32 => ?_)
        · skip
          have hlt : S.n < 48 := by omega
          refine lv_aload_n hx hb dX1_delete_37 rfl (lv_at hl 0 rfl) ?_
          refine lv_iload_n hx hb dX1_delete_38 rfl (lv_at hl 1 rfl) ?_
          refine lv_iconst (v := (bI false)) hx hb dX1_delete_39 (by decide +kernel) ?_
          refine lv_aload_n hx hb dX1_delete_40 rfl (lv_at hl 0 rfl) ?_
          refine tr_mg (x := .ref (h 8)) S0 hK hP 8 (by decide) q163 rfl rfl dX1_delete_41 ?_
          refine lv_iload_n hx hb dX1_delete_44 rfl (lv_at hl 2 rfl) ?_
          refine tr_ald (v := (iI ((tr_tx S r).getD q 0 + 1))) hx hb hK hP 7 0 rfl rfl (by decide) (by omega) ((htx q c23).trans (iI_s _).symm) dX1_delete_45 ?_
          refine lv_iconst (v := 0) hx hb dX1_delete_46 (by decide +kernel) ?_
          refine tr_callI (As := [.int (nI r), .int (bI false), .int (iI ((tr_tx S r).getD q 0 + 1)), .int 0]) (rest := []) S0 (tr_M_make l D h cI cZ S w hRw hI r ((tr_tx S r).getD q 0 + 1) false 0 hr hlt (tr_Inv_make hI hr hlt (fun _ => by omega) (tr_delV_mem c23) (fun e => by cases e))) 4 (lw_V q214 q216 qs14 q18 q217) (by decide +kernel) ⟨Nat.le_of_ble_eq_true rfl, Nat.le_of_ble_eq_true rfl⟩ hK hP hD hS hA rfl rfl rfl hl.1 rfl (Nat.le_of_ble_eq_true rfl) dX1_delete_47 ⟨Nat.le_of_ble_eq_true rfl, Nat.le_of_ble_eq_true rfl⟩ (fun r47 u2 H locs hw47 hP hD hS => ?_)
          exact tr_iret (wv := wM h cI cZ) (u := u2) hx hb hret hlk hK hP hD hS dX1_delete_50 (⟨by rw [tr_delA_5 hr hq c23 (by omega) hlt]; exact hw47.1, by rw [tr_delA_5 hr hq c23 (by omega) hlt]; exact hw47.2⟩)
        · skip
          refine lv_iconst (v := (iI 0)) hx hb dX1_delete_35 (by decide +kernel) ?_
          exact tr_iret (wv := wM h cI cZ) (u := w) hx hb hret hlk hK hP hD hS dX1_delete_36 (⟨by rw [tr_delA_4 (by omega)], by rw [tr_delA_4 (by omega)]; exact hRw⟩)
  · skip
    refine lv_iconst (v := (iI 0)) hx hb dX1_delete_7 (by decide +kernel) ?_
    exact tr_iret (wv := wM h cI cZ) (u := v) hx hb hret hlk hK hP hD hS dX1_delete_8 (⟨by rw [tr_delA_1 (tr_nt c4)], by rw [tr_delA_1 (tr_nt c4)]; exact hR⟩)
end
section
/-! M: row, known, deliver, sync, alike (printed by gen/m_pub.py) -/
set_option maxRecDepth 100000
theorem tr_upd_same {f : Nat → Int32} {j : Nat} {x : Int32} (h : f j = x) : upd f j x = f := by
  funext k
  by_cases e : k = j
  · rw [e, tr_u_s, h]
  · rw [tr_u_n e]
set_option maxHeartbeats 4000000 in
theorem tr_M_row (l : Launch) (D : va_G) (h : Nat → Nat) (cI cZ : ClassId) (S : TS) (v : MW) (hR : RepM S v) (hI : tr_Inv S) (x : Int32) : tr_MR l yX1_row cX1_row 4 (some .int) 1 22 D tr_cl (tr_ty cI cZ) (wM h cI cZ) [.ref (h 0), .int x] v (fun z => z = tr_rowA S x) := by
  refine tr_enterI RX1 rfl (by decide) (Nat.le_of_ble_eq_true rfl) ?_
  intro p e s m below meth c0 A ls S0 hret hlk hK hP hD hS hA hl
  have hx := S0.1
  have hb := S0.2.1
  have hl : lv_has ls 4 [(0, .ref (h 0)), (1, .int x)] := hl
  refine lv_iload_n hx hb dX1_row_0 rfl (lv_at hl 1 rfl) ?_
  refine tr_callS (As := [.int x]) (rest := []) S0 (tr_M_bad l x) 1 (lw_S q187 q188 q18 q189) (by decide +kernel) ⟨Nat.le_of_ble_eq_true rfl, Nat.le_of_ble_eq_true rfl⟩ hP hS hA rfl hl.1 rfl (Nat.le_of_ble_eq_true rfl) dX1_row_1 ⟨Nat.le_of_ble_eq_true rfl, Nat.le_of_ble_eq_true rfl⟩ (fun r1 hw1 H locs hP hS => ?_)
  subst hw1
  refine tr_feqB (tgt := 9) hx hb dX1_row_4 (by decide) (fun c4 => ?_) (fun c4 => ?_)
  · skip
    obtain ⟨r, hr, rfl⟩ := tr_ok_n (tr_nf c4)
    have hn48 := hI.1.1.1
    refine lv_iconst (v := (nI 0)) hx hb dX1_row_9 (by decide +kernel) ?_
    refine lv_istore_n (lv' := [(2, .int (nI 0)), (0, .ref (h 0)), (1, .int (nI r))]) hx hb dX1_row_10 rfl hl (by decide) rfl (fun ls hl => ?_)
    refine lv_iconst (v := (nI 0)) hx hb dX1_row_11 (by decide +kernel) ?_
    refine lv_istore_n (lv' := [(3, .int (nI 0)), (2, .int (nI 0)), (0, .ref (h 0)), (1, .int (nI r))]) hx hb dX1_row_12 rfl hl (by decide) rfl (fun ls hl => ?_)
    refine tr_loop (wv := wM h cI cZ) (τ := Nat) (lv := fun st => [(0, .ref (h 0)), (1, .int (nI r)), (2, .int (nI (tr_ct (fun c => tr_kn S r c && S.ins c) st))), (3, .int (nI st))]) (ww := fun _ => v) (I := fun st => st ≤ S.n) (μ := fun st => S.n - st) ?_ 0 (Nat.zero_le _) hP hD hS (lv_sub hl [2, 3, 1, 0] rfl)
    intro i hi ih H locs ls hP hD hS hl
    have hl : lv_has ls 4 [(0, .ref (h 0)), (1, .int (nI r)), (2, .int (nI (tr_ct (fun c => tr_kn S r c && S.ins c) i))), (3, .int (nI i))] := hl
    refine lv_iload_n hx hb dX1_row_13 rfl (lv_at hl 3 rfl) ?_
    refine lv_aload_n hx hb dX1_row_14 rfl (lv_at hl 0 rfl) ?_
    refine tr_mg (x := .int (nI S.n)) S0 hK hP 0 (by decide) q155 rfl (by rw [← hR.made]; rfl) dX1_row_15 ?_
    refine tr_cge (tgt := 39) hx hb dX1_row_18 (by decide) (by omega) (by omega) (fun c18 => ?_) (fun c18 => ?_)
    · skip
      have ei : i = S.n := by omega
      subst ei
      refine lv_iload_n hx hb dX1_row_39 rfl (lv_at hl 2 rfl) ?_
      exact tr_iret (wv := wM h cI cZ) (u := v) hx hb hret hlk hK hP hD hS dX1_row_40 (⟨rfl, by rw [tr_rowA_2 hr, tr_ct_row hI.1 hr]⟩)
    · skip
      refine lv_aload_n hx hb dX1_row_21 rfl (lv_at hl 0 rfl) ?_
      refine lv_iload_n hx hb dX1_row_22 rfl (lv_at hl 1 rfl) ?_
      refine lv_iload_n hx hb dX1_row_23 rfl (lv_at hl 3 rfl) ?_
      refine tr_callR (As := [.int (nI r), .int (nI i)]) (rest := []) S0 (tr_M_inRow l D h cI cZ S v hR hn48 r i hr c18) 2 (lw_V q198 q200 qs10 q18 q201) (by decide +kernel) ⟨Nat.le_of_ble_eq_true rfl, Nat.le_of_ble_eq_true rfl⟩ hK hP hD hS hA rfl rfl rfl hl.1 rfl (Nat.le_of_ble_eq_true rfl) dX1_row_24 ⟨Nat.le_of_ble_eq_true rfl, Nat.le_of_ble_eq_true rfl⟩ (fun r24 hw24 H locs hP hS => ?_)
      subst hw24
      refine tr_feqB (tgt := 33) hx hb dX1_row_27 (by decide) (fun c27 => ?_) (fun c27 => ?_)
      · skip
        refine lv_iinc (v := (nI (i + 1))) (lv' := [(3, .int (nI (i + 1))), (0, .ref (h 0)), (1, .int (nI r)), (2, .int (nI (tr_ct (fun c => tr_kn S r c && S.ins c) i)))]) hx hb dX1_row_33 hl (k := 3) rfl (nI_inc _) (by decide) rfl (fun ls hl => ?_)
        refine lv_goto (tgt := 13) hx hb dX1_row_36 (by decide) ?_
        exact ih (i + 1) (by omega) (by omega) H locs ls hP hD hS (by show lv_has ls 4 [(0, .ref (h 0)), (1, .int (nI r)), (2, .int (nI (tr_ct (fun c => tr_kn S r c && S.ins c) (i + 1)))), (3, .int (nI (i + 1)))]; rw [tr_ct_f (P := (fun c => tr_kn S r c && S.ins c)) c27]; exact lv_sub hl [1, 2, 3, 0] rfl)
      · skip
        refine lv_iinc (v := (nI ((tr_ct (fun c => tr_kn S r c && S.ins c) i) + 1))) (lv' := [(2, .int (nI ((tr_ct (fun c => tr_kn S r c && S.ins c) i) + 1))), (0, .ref (h 0)), (1, .int (nI r)), (3, .int (nI i))]) hx hb dX1_row_30 hl (k := 2) rfl (nI_inc _) (by decide) rfl (fun ls hl => ?_)
        refine lv_iinc (v := (nI (i + 1))) (lv' := [(3, .int (nI (i + 1))), (2, .int (nI ((tr_ct (fun c => tr_kn S r c && S.ins c) i) + 1))), (0, .ref (h 0)), (1, .int (nI r))]) hx hb dX1_row_33 hl (k := 3) rfl (nI_inc _) (by decide) rfl (fun ls hl => ?_)
        refine lv_goto (tgt := 13) hx hb dX1_row_36 (by decide) ?_
        exact ih (i + 1) (by omega) (by omega) H locs ls hP hD hS (by show lv_has ls 4 [(0, .ref (h 0)), (1, .int (nI r)), (2, .int (nI (tr_ct (fun c => tr_kn S r c && S.ins c) (i + 1)))), (3, .int (nI (i + 1)))]; rw [tr_ct_t (P := (fun c => tr_kn S r c && S.ins c)) c27]; exact lv_sub hl [2, 3, 1, 0] rfl)
  · skip
    refine lv_iconst (v := (iI 0)) hx hb dX1_row_7 (by decide +kernel) ?_
    exact tr_iret (wv := wM h cI cZ) (u := v) hx hb hret hlk hK hP hD hS dX1_row_8 (⟨rfl, (tr_rowA_1 (tr_nt c4)).symm⟩)
set_option maxHeartbeats 4000000 in
theorem tr_M_known (l : Launch) (D : va_G) (h : Nat → Nat) (cI cZ : ClassId) (S : TS) (v : MW) (hR : RepM S v) (hI : tr_Inv S) (x y : Int32) : tr_MR l yX1_known cX1_known 5 (some .int) 1 20 D tr_cl (tr_ty cI cZ) (wM h cI cZ) [.ref (h 0), .int x, .int y] v (fun z => z = tr_knoA S x y) := by
  refine tr_enterI RX1 rfl (by decide) (Nat.le_of_ble_eq_true rfl) ?_
  intro p e s m below meth c0 A ls S0 hret hlk hK hP hD hS hA hl
  have hx := S0.1
  have hb := S0.2.1
  have hl : lv_has ls 5 [(0, .ref (h 0)), (1, .int x), (2, .int y)] := hl
  refine lv_iload_n hx hb dX1_known_0 rfl (lv_at hl 1 rfl) ?_
  refine tr_callS (As := [.int x]) (rest := []) S0 (tr_M_bad l x) 1 (lw_S q187 q188 q18 q189) (by decide +kernel) ⟨Nat.le_of_ble_eq_true rfl, Nat.le_of_ble_eq_true rfl⟩ hP hS hA rfl hl.1 rfl (Nat.le_of_ble_eq_true rfl) dX1_known_1 ⟨Nat.le_of_ble_eq_true rfl, Nat.le_of_ble_eq_true rfl⟩ (fun r1 hw1 H locs hP hS => ?_)
  subst hw1
  refine tr_fneB (tgt := 14) hx hb dX1_known_4 (by decide) (fun c4 => ?_) (fun c4 => ?_)
  · skip
    refine lv_iconst (v := (iI 0)) hx hb dX1_known_14 (by decide +kernel) ?_
    exact tr_iret (wv := wM h cI cZ) (u := v) hx hb hret hlk hK hP hD hS dX1_known_15 (⟨rfl, (tr_knoA_1 (tr_nt c4)).symm⟩)
  · skip
    obtain ⟨r, hr, rfl⟩ := tr_ok_n (tr_nf c4)
    refine lv_iload_n hx hb dX1_known_7 rfl (lv_at hl 2 rfl) ?_
    refine tr_callS (As := [.int y]) (rest := []) S0 (tr_M_bad l y) 1 (lw_S q187 q188 q18 q189) (by decide +kernel) ⟨Nat.le_of_ble_eq_true rfl, Nat.le_of_ble_eq_true rfl⟩ hP hS hA rfl hl.1 rfl (Nat.le_of_ble_eq_true rfl) dX1_known_8 ⟨Nat.le_of_ble_eq_true rfl, Nat.le_of_ble_eq_true rfl⟩ (fun r8 hw8 H locs hP hS => ?_)
    subst hw8
    refine tr_feqB (tgt := 16) hx hb dX1_known_11 (by decide) (fun c11 => ?_) (fun c11 => ?_)
    · skip
      obtain ⟨o, ho, rfl⟩ := tr_ok_n (tr_nf c11)
      have hn48 := hI.1.1.1
      refine lv_iconst (v := (nI 0)) hx hb dX1_known_16 (by decide +kernel) ?_
      refine lv_istore_n (lv' := [(3, .int (nI 0)), (0, .ref (h 0)), (1, .int (nI r)), (2, .int (nI o))]) hx hb dX1_known_17 rfl hl (by decide) rfl (fun ls hl => ?_)
      refine lv_iconst (v := (nI 0)) hx hb dX1_known_18 (by decide +kernel) ?_
      refine lv_istore (lv' := [(4, .int (nI 0)), (3, .int (nI 0)), (0, .ref (h 0)), (1, .int (nI r)), (2, .int (nI o))]) hx hb dX1_known_19 hl (by decide) rfl (fun ls hl => ?_)
      refine tr_loop (wv := wM h cI cZ) (τ := Nat) (lv := fun st => [(0, .ref (h 0)), (1, .int (nI r)), (2, .int (nI o)), (3, .int (nI (tr_ct (fun c => tr_kn S r c && decide (S.og c = o)) st))), (4, .int (nI st))]) (ww := fun _ => v) (I := fun st => st ≤ S.n) (μ := fun st => S.n - st) ?_ 0 (Nat.zero_le _) hP hD hS (lv_sub hl [2, 3, 4, 1, 0] rfl)
      intro i hi ih H locs ls hP hD hS hl
      have hl : lv_has ls 5 [(0, .ref (h 0)), (1, .int (nI r)), (2, .int (nI o)), (3, .int (nI (tr_ct (fun c => tr_kn S r c && decide (S.og c = o)) i))), (4, .int (nI i))] := hl
      refine lv_iload hx hb dX1_known_21 (lv_at hl 4 rfl) ?_
      refine lv_aload_n hx hb dX1_known_23 rfl (lv_at hl 0 rfl) ?_
      refine tr_mg (x := .int (nI S.n)) S0 hK hP 0 (by decide) q155 rfl (by rw [← hR.made]; rfl) dX1_known_24 ?_
      refine tr_cge (tgt := 65) hx hb dX1_known_27 (by decide) (by omega) (by omega) (fun c27 => ?_) (fun c27 => ?_)
      · skip
        have ei : i = S.n := by omega
        subst ei
        refine lv_iload_n hx hb dX1_known_65 rfl (lv_at hl 3 rfl) ?_
        exact tr_iret (wv := wM h cI cZ) (u := v) hx hb hret hlk hK hP hD hS dX1_known_66 (⟨rfl, by rw [tr_knoA_3 hr ho, tr_ct_known hI.1 hr ho]⟩)
      · skip
        have hog := (hI.1.1.2 i c27).1
        refine lv_aload_n hx hb dX1_known_30 rfl (lv_at hl 0 rfl) ?_
        refine tr_mg (x := .ref (h 6)) S0 hK hP 6 (by decide) q161 rfl rfl dX1_known_31 ?_
        refine lv_bipush (v := (nI 48)) hx hb dX1_known_34 (by decide +kernel) ?_
        refine lv_iload_n hx hb dX1_known_36 rfl (lv_at hl 1 rfl) ?_
        refine tr_imul (z := (nI (48 * r))) hx hb dX1_known_37 (pk_mul _ _) ?_
        refine lv_iload hx hb dX1_known_38 (lv_at hl 4 rfl) ?_
        refine tr_iadd (z := (nI (48 * r + i))) hx hb dX1_known_40 (nI_add _ _) ?_
        refine tr_zld (v := (bI (tr_kn S r i))) hx hb hK hP 6 1 rfl rfl (by decide) (by omega) (hR.kn r hr i c27) dX1_known_41 ?_
        refine tr_feqB (tgt := 59) hx hb dX1_known_42 (by decide) (fun c42 => ?_) (fun c42 => ?_)
        · skip
          refine lv_iinc (v := (nI (i + 1))) (lv' := [(4, .int (nI (i + 1))), (0, .ref (h 0)), (1, .int (nI r)), (2, .int (nI o)), (3, .int (nI (tr_ct (fun c => tr_kn S r c && decide (S.og c = o)) i)))]) hx hb dX1_known_59 hl (k := 4) rfl (nI_inc _) (by decide) rfl (fun ls hl => ?_)
          refine lv_goto (tgt := 21) hx hb dX1_known_62 (by decide) ?_
          exact ih (i + 1) (by omega) (by omega) H locs ls hP hD hS (by show lv_has ls 5 [(0, .ref (h 0)), (1, .int (nI r)), (2, .int (nI o)), (3, .int (nI (tr_ct (fun c => tr_kn S r c && decide (S.og c = o)) (i + 1)))), (4, .int (nI (i + 1)))]; rw [tr_ct_f (P := (fun c => tr_kn S r c && decide (S.og c = o))) (by show (tr_kn S r i && decide (S.og i = o)) = false; rw [c42]; rfl)]; exact lv_sub hl [1, 2, 3, 4, 0] rfl)
        · skip
          refine lv_aload_n hx hb dX1_known_45 rfl (lv_at hl 0 rfl) ?_
          refine tr_mg (x := .ref (h 1)) S0 hK hP 1 (by decide) q156 rfl rfl dX1_known_46 ?_
          refine lv_iload hx hb dX1_known_49 (lv_at hl 4 rfl) ?_
          refine tr_ald (v := (nI (S.og i))) hx hb hK hP 1 0 rfl rfl (by decide) (by omega) (hR.og i c27) dX1_known_51 ?_
          refine lv_iload_n hx hb dX1_known_52 rfl (lv_at hl 2 rfl) ?_
          refine tr_cne (tgt := 59) hx hb dX1_known_53 (by decide) (by omega) (by omega) (fun c53 => ?_) (fun c53 => ?_)
          · skip
            refine lv_iinc (v := (nI (i + 1))) (lv' := [(4, .int (nI (i + 1))), (0, .ref (h 0)), (1, .int (nI r)), (2, .int (nI o)), (3, .int (nI (tr_ct (fun c => tr_kn S r c && decide (S.og c = o)) i)))]) hx hb dX1_known_59 hl (k := 4) rfl (nI_inc _) (by decide) rfl (fun ls hl => ?_)
            refine lv_goto (tgt := 21) hx hb dX1_known_62 (by decide) ?_
            exact ih (i + 1) (by omega) (by omega) H locs ls hP hD hS (by show lv_has ls 5 [(0, .ref (h 0)), (1, .int (nI r)), (2, .int (nI o)), (3, .int (nI (tr_ct (fun c => tr_kn S r c && decide (S.og c = o)) (i + 1)))), (4, .int (nI (i + 1)))]; rw [tr_ct_f (P := (fun c => tr_kn S r c && decide (S.og c = o))) (by show (tr_kn S r i && decide (S.og i = o)) = false; rw [decide_eq_false c53, Bool.and_false])]; exact lv_sub hl [1, 2, 3, 4, 0] rfl)
          · skip
            refine lv_iinc (v := (nI ((tr_ct (fun c => tr_kn S r c && decide (S.og c = o)) i) + 1))) (lv' := [(3, .int (nI ((tr_ct (fun c => tr_kn S r c && decide (S.og c = o)) i) + 1))), (0, .ref (h 0)), (1, .int (nI r)), (2, .int (nI o)), (4, .int (nI i))]) hx hb dX1_known_56 hl (k := 3) rfl (nI_inc _) (by decide) rfl (fun ls hl => ?_)
            refine lv_iinc (v := (nI (i + 1))) (lv' := [(4, .int (nI (i + 1))), (3, .int (nI ((tr_ct (fun c => tr_kn S r c && decide (S.og c = o)) i) + 1))), (0, .ref (h 0)), (1, .int (nI r)), (2, .int (nI o))]) hx hb dX1_known_59 hl (k := 4) rfl (nI_inc _) (by decide) rfl (fun ls hl => ?_)
            refine lv_goto (tgt := 21) hx hb dX1_known_62 (by decide) ?_
            exact ih (i + 1) (by omega) (by omega) H locs ls hP hD hS (by show lv_has ls 5 [(0, .ref (h 0)), (1, .int (nI r)), (2, .int (nI o)), (3, .int (nI (tr_ct (fun c => tr_kn S r c && decide (S.og c = o)) (i + 1)))), (4, .int (nI (i + 1)))]; rw [tr_ct_t (P := (fun c => tr_kn S r c && decide (S.og c = o))) (by show (tr_kn S r i && decide (S.og i = o)) = true; rw [c42, decide_eq_true c53]; rfl)]; exact lv_sub hl [2, 3, 4, 1, 0] rfl)
    · skip
      refine lv_iconst (v := (iI 0)) hx hb dX1_known_14 (by decide +kernel) ?_
      exact tr_iret (wv := wM h cI cZ) (u := v) hx hb hret hlk hK hP hD hS dX1_known_15 (⟨rfl, (tr_knoA_2 (tr_nt c11)).symm⟩)
set_option maxHeartbeats 4000000 in
theorem tr_M_deliver (l : Launch) (D : va_G) (h : Nat → Nat) (cI cZ : ClassId) (S : TS) (v : MW) (hR : RepM S v) (hI : tr_Inv S) (x y : Int32) : tr_MI l yX1_deliver cX1_deliver 4 (some .int) 1 20 D tr_cl (tr_ty cI cZ) (wM h cI cZ) [.ref (h 0), .int x, .int y] v (fun k w => k = (tr_dlvA S x y).1 ∧ RepM (tr_dlvA S x y).2 w) := by
  refine tr_enterI RX1 rfl (by decide) (Nat.le_of_ble_eq_true rfl) ?_
  intro p e s m below meth c0 A ls S0 hret hlk hK hP hD hS hA hl
  have hx := S0.1
  have hb := S0.2.1
  have hl : lv_has ls 4 [(0, .ref (h 0)), (1, .int x), (2, .int y)] := hl
  refine lv_iload_n hx hb dX1_deliver_0 rfl (lv_at hl 1 rfl) ?_
  refine tr_callS (As := [.int x]) (rest := []) S0 (tr_M_bad l x) 1 (lw_S q187 q188 q18 q189) (by decide +kernel) ⟨Nat.le_of_ble_eq_true rfl, Nat.le_of_ble_eq_true rfl⟩ hP hS hA rfl hl.1 rfl (Nat.le_of_ble_eq_true rfl) dX1_deliver_1 ⟨Nat.le_of_ble_eq_true rfl, Nat.le_of_ble_eq_true rfl⟩ (fun r1 hw1 H locs hP hS => ?_)
  subst hw1
  refine tr_fneB (tgt := 14) hx hb dX1_deliver_4 (by decide) (fun c4 => ?_) (fun c4 => ?_)
  · skip
    refine lv_iconst (v := (iI 0)) hx hb dX1_deliver_14 (by decide +kernel) ?_
    exact tr_iret (wv := wM h cI cZ) (u := v) hx hb hret hlk hK hP hD hS dX1_deliver_15 (⟨by rw [tr_dlvA_1 (tr_nt c4)], by rw [tr_dlvA_1 (tr_nt c4)]; exact hR⟩)
  · skip
    obtain ⟨f, hf, rfl⟩ := tr_ok_n (tr_nf c4)
    refine lv_iload_n hx hb dX1_deliver_7 rfl (lv_at hl 2 rfl) ?_
    refine tr_callS (As := [.int y]) (rest := []) S0 (tr_M_bad l y) 1 (lw_S q187 q188 q18 q189) (by decide +kernel) ⟨Nat.le_of_ble_eq_true rfl, Nat.le_of_ble_eq_true rfl⟩ hP hS hA rfl hl.1 rfl (Nat.le_of_ble_eq_true rfl) dX1_deliver_8 ⟨Nat.le_of_ble_eq_true rfl, Nat.le_of_ble_eq_true rfl⟩ (fun r8 hw8 H locs hP hS => ?_)
    subst hw8
    refine tr_feqB (tgt := 16) hx hb dX1_deliver_11 (by decide) (fun c11 => ?_) (fun c11 => ?_)
    · skip
      obtain ⟨t, ht, rfl⟩ := tr_ok_n (tr_nf c11)
      have hn48 := hI.1.1.1
      refine lv_iconst (v := (nI 0)) hx hb dX1_deliver_16 (by decide +kernel) ?_
      refine lv_istore_n (lv' := [(3, .int (nI 0)), (0, .ref (h 0)), (1, .int (nI f)), (2, .int (nI t))]) hx hb dX1_deliver_17 rfl hl (by decide) rfl (fun ls hl => ?_)
      refine tr_loop (wv := wM h cI cZ) (τ := Nat) (lv := fun st => [(0, .ref (h 0)), (1, .int (nI f)), (2, .int (nI t)), (3, .int (nI st))]) (ww := fun _ => v) (I := fun st => st ≤ S.n ∧ ∀ c, c < st → S.og c = f → tr_kn S t c = true) (μ := fun st => S.n - st) ?_ 0 ⟨Nat.zero_le _, fun c hc => absurd hc (by omega)⟩ hP hD hS (lv_sub hl [1, 2, 3, 0] rfl)
      rintro i ⟨hi, hall⟩ ih H locs ls hP hD hS hl
      have hl : lv_has ls 4 [(0, .ref (h 0)), (1, .int (nI f)), (2, .int (nI t)), (3, .int (nI i))] := hl
      refine lv_iload_n hx hb dX1_deliver_18 rfl (lv_at hl 3 rfl) ?_
      refine lv_aload_n hx hb dX1_deliver_19 rfl (lv_at hl 0 rfl) ?_
      refine tr_mg (x := .int (nI S.n)) S0 hK hP 0 (by decide) q155 rfl (by rw [← hR.made]; rfl) dX1_deliver_20 ?_
      refine tr_cge (tgt := 101) hx hb dX1_deliver_23 (by decide) (by omega) (by omega) (fun c23 => ?_) (fun c23 => ?_)
      · skip
        have ei : i = S.n := by omega
        subst ei
        refine lv_iconst (v := (iI 0)) hx hb dX1_deliver_101 (by decide +kernel) ?_
        exact tr_iret (wv := wM h cI cZ) (u := v) hx hb hret hlk hK hP hD hS dX1_deliver_102 (⟨by rw [tr_dlvA_3 hf ht (tr_all_none hall)], by rw [tr_dlvA_3 hf ht (tr_all_none hall)]; exact hR⟩)
      · skip
        have hog := (hI.1.1.2 i c23).1
        have hpi := (hI.1.1.2 i c23).2.1
        refine lv_aload_n hx hb dX1_deliver_26 rfl (lv_at hl 0 rfl) ?_
        refine tr_mg (x := .ref (h 1)) S0 hK hP 1 (by decide) q156 rfl rfl dX1_deliver_27 ?_
        refine lv_iload_n hx hb dX1_deliver_30 rfl (lv_at hl 3 rfl) ?_
        refine tr_ald (v := (nI (S.og i))) hx hb hK hP 1 0 rfl rfl (by decide) (by omega) (hR.og i c23) dX1_deliver_31 ?_
        refine lv_iload_n hx hb dX1_deliver_32 rfl (lv_at hl 1 rfl) ?_
        refine tr_cne (tgt := 95) hx hb dX1_deliver_33 (by decide) (by omega) (by omega) (fun c33 => ?_) (fun c33 => ?_)
        · skip
          refine lv_iinc (v := (nI (i + 1))) (lv' := [(3, .int (nI (i + 1))), (0, .ref (h 0)), (1, .int (nI f)), (2, .int (nI t))]) hx hb dX1_deliver_95 hl (k := 3) rfl (nI_inc _) (by decide) rfl (fun ls hl => ?_)
          refine lv_goto (tgt := 18) hx hb dX1_deliver_98 (by decide) ?_
          exact ih (i + 1) ⟨by omega, fun c hc ho => (by by_cases e : c = i; (subst e; exact absurd ho c33); exact hall c (by omega) ho)⟩ (by omega) H locs ls hP hD hS (lv_sub hl [1, 2, 3, 0] rfl)
        · skip
          refine lv_aload_n hx hb dX1_deliver_36 rfl (lv_at hl 0 rfl) ?_
          refine tr_mg (x := .ref (h 6)) S0 hK hP 6 (by decide) q161 rfl rfl dX1_deliver_37 ?_
          refine lv_bipush (v := (nI 48)) hx hb dX1_deliver_40 (by decide +kernel) ?_
          refine lv_iload_n hx hb dX1_deliver_42 rfl (lv_at hl 2 rfl) ?_
          refine tr_imul (z := (nI (48 * t))) hx hb dX1_deliver_43 (pk_mul _ _) ?_
          refine lv_iload_n hx hb dX1_deliver_44 rfl (lv_at hl 3 rfl) ?_
          refine tr_iadd (z := (nI (48 * t + i))) hx hb dX1_deliver_45 (nI_add _ _) ?_
          refine tr_zld (v := (bI (tr_kn S t i))) hx hb hK hP 6 1 rfl rfl (by decide) (by omega) (hR.kn t ht i c23) dX1_deliver_46 ?_
          refine tr_fneB (tgt := 95) hx hb dX1_deliver_47 (by decide) (fun c47 => ?_) (fun c47 => ?_)
          · skip
            refine lv_iinc (v := (nI (i + 1))) (lv' := [(3, .int (nI (i + 1))), (0, .ref (h 0)), (1, .int (nI f)), (2, .int (nI t))]) hx hb dX1_deliver_95 hl (k := 3) rfl (nI_inc _) (by decide) rfl (fun ls hl => ?_)
            refine lv_goto (tgt := 18) hx hb dX1_deliver_98 (by decide) ?_
            exact ih (i + 1) ⟨by omega, fun c hc ho => (by by_cases e : c = i; (subst e; exact c47); exact hall c (by omega) ho)⟩ (by omega) H locs ls hP hD hS (lv_sub hl [1, 2, 3, 0] rfl)
          · skip
            have hnum := tr_next_num c33 c47 hall
            refine lv_aload_n hx hb dX1_deliver_50 rfl (lv_at hl 0 rfl) ?_
            refine tr_mg (x := .ref (h 4)) S0 hK hP 4 (by decide) q159 rfl rfl dX1_deliver_51 ?_
            refine lv_iload_n hx hb dX1_deliver_54 rfl (lv_at hl 3 rfl) ?_
            refine tr_ald (v := (iI (S.pa i))) hx hb hK hP 4 0 rfl rfl (by decide) (by omega) (hR.pa i c23) dX1_deliver_55 ?_
            refine tr_fltI (tgt := 81) hx hb dX1_deliver_56 (by decide) (by omega) (fun c56 => ?_) (fun c56 => ?_)
            · skip
              refine lv_aload_n hx hb dX1_deliver_81 rfl (lv_at hl 0 rfl) ?_
              refine tr_mg (x := .ref (h 6)) S0 hK hP 6 (by decide) q161 rfl rfl dX1_deliver_82 ?_
              refine lv_bipush (v := (nI 48)) hx hb dX1_deliver_85 (by decide +kernel) ?_
              refine lv_iload_n hx hb dX1_deliver_87 rfl (lv_at hl 2 rfl) ?_
              refine tr_imul (z := (nI (48 * t))) hx hb dX1_deliver_88 (pk_mul _ _) ?_
              refine lv_iload_n hx hb dX1_deliver_89 rfl (lv_at hl 3 rfl) ?_
              refine tr_iadd (z := (nI (48 * t + i))) hx hb dX1_deliver_90 (nI_add _ _) ?_
              refine lv_iconst (v := (bI true)) hx hb dX1_deliver_91 (by decide +kernel) ?_
              refine tr_zst (ws' := wM h cI cZ (sM v 6 (48 * t + i) (bI true))) hx hb hK hP hD hS 6 1 rfl rfl (by decide) (by omega) (bI_nar _) rfl dX1_deliver_92 (fun H locs hP hD hS => ?_)
              refine lv_iconst (v := (nI 0)) hx hb dX1_deliver_93 (by decide +kernel) ?_
              exact tr_iret (wv := wM h cI cZ) (u := (sM v 6 (48 * t + i) (bI true))) hx hb hret hlk hK hP hD hS dX1_deliver_94 (⟨by rw [tr_dlvA_4 hf ht c23 c33 hnum (Or.inl c56)], by rw [tr_dlvA_4 hf ht c23 c33 hnum (Or.inl c56)]; exact hR.learn ht c23 hn48 (by rw [c33]; exact hnum) rfl (fun k hk => tr_vn (by omega)) rfl⟩)
            · skip
              obtain ⟨a, ea⟩ : ∃ a, S.pa i = a + 1 := ⟨S.pa i - 1, by omega⟩
              refine lv_aload_n hx hb dX1_deliver_59 rfl (lv_at hl 0 rfl) ?_
              refine tr_mg (x := .ref (h 6)) S0 hK hP 6 (by decide) q161 rfl rfl dX1_deliver_60 ?_
              refine lv_bipush (v := (nI 48)) hx hb dX1_deliver_63 (by decide +kernel) ?_
              refine lv_iload_n hx hb dX1_deliver_65 rfl (lv_at hl 2 rfl) ?_
              refine tr_imul (z := (nI (48 * t))) hx hb dX1_deliver_66 (pk_mul _ _) ?_
              refine lv_aload_n hx hb dX1_deliver_67 rfl (lv_at hl 0 rfl) ?_
              refine tr_mg (x := .ref (h 4)) S0 hK hP 4 (by decide) q159 rfl rfl dX1_deliver_68 ?_
              refine lv_iload_n hx hb dX1_deliver_71 rfl (lv_at hl 3 rfl) ?_
              refine tr_ald (v := (nI a)) hx hb hK hP 4 0 rfl rfl (by decide) (by omega) (by rw [← iI_s, ← ea]; exact hR.pa i c23) dX1_deliver_72 ?_
              refine tr_iadd (z := (nI (48 * t + a))) hx hb dX1_deliver_73 (nI_add _ _) ?_
              refine tr_zld (v := (bI (tr_kn S t a))) hx hb hK hP 6 1 rfl rfl (by decide) (by omega) (hR.kn t ht a (by omega)) dX1_deliver_74 ?_
              refine tr_fneB (tgt := 81) hx hb dX1_deliver_75 (by decide) (fun c75 => ?_) (fun c75 => ?_)
              · skip
                refine lv_aload_n hx hb dX1_deliver_81 rfl (lv_at hl 0 rfl) ?_
                refine tr_mg (x := .ref (h 6)) S0 hK hP 6 (by decide) q161 rfl rfl dX1_deliver_82 ?_
                refine lv_bipush (v := (nI 48)) hx hb dX1_deliver_85 (by decide +kernel) ?_
                refine lv_iload_n hx hb dX1_deliver_87 rfl (lv_at hl 2 rfl) ?_
                refine tr_imul (z := (nI (48 * t))) hx hb dX1_deliver_88 (pk_mul _ _) ?_
                refine lv_iload_n hx hb dX1_deliver_89 rfl (lv_at hl 3 rfl) ?_
                refine tr_iadd (z := (nI (48 * t + i))) hx hb dX1_deliver_90 (nI_add _ _) ?_
                refine lv_iconst (v := (bI true)) hx hb dX1_deliver_91 (by decide +kernel) ?_
                refine tr_zst (ws' := wM h cI cZ (sM v 6 (48 * t + i) (bI true))) hx hb hK hP hD hS 6 1 rfl rfl (by decide) (by omega) (bI_nar _) rfl dX1_deliver_92 (fun H locs hP hD hS => ?_)
                refine lv_iconst (v := (nI 0)) hx hb dX1_deliver_93 (by decide +kernel) ?_
                exact tr_iret (wv := wM h cI cZ) (u := (sM v 6 (48 * t + i) (bI true))) hx hb hret hlk hK hP hD hS dX1_deliver_94 (⟨by rw [tr_dlvA_4 hf ht c23 c33 hnum (Or.inr (by rw [ea, Nat.add_sub_cancel]; exact c75))], by rw [tr_dlvA_4 hf ht c23 c33 hnum (Or.inr (by rw [ea, Nat.add_sub_cancel]; exact c75))]; exact hR.learn ht c23 hn48 (by rw [c33]; exact hnum) rfl (fun k hk => tr_vn (by omega)) rfl⟩)
              · skip
                refine lv_bipush (v := ((-2))) hx hb dX1_deliver_78 (by decide +kernel) ?_
                exact tr_iret (wv := wM h cI cZ) (u := v) hx hb hret hlk hK hP hD hS dX1_deliver_80 (⟨by rw [tr_dlvA_5 hf ht c23 c33 hnum ea c75], by rw [tr_dlvA_5 hf ht c23 c33 hnum ea c75]; exact hR⟩)
    · skip
      refine lv_iconst (v := (iI 0)) hx hb dX1_deliver_14 (by decide +kernel) ?_
      exact tr_iret (wv := wM h cI cZ) (u := v) hx hb hret hlk hK hP hD hS dX1_deliver_15 (⟨by rw [tr_dlvA_2 (tr_nt c11)], by rw [tr_dlvA_2 (tr_nt c11)]; exact hR⟩)
set_option maxHeartbeats 4000000 in
theorem tr_M_sync (l : Launch) (D : va_G) (h : Nat → Nat) (cI cZ : ClassId) (S : TS) (v : MW) (hR : RepM S v) (hI : tr_Inv S) (x y : Int32) : tr_MI l yX1_sync cX1_sync 4 (some .int) 1 20 D tr_cl (tr_ty cI cZ) (wM h cI cZ) [.ref (h 0), .int x, .int y] v (fun k w => k = (tr_synA S x y).1 ∧ RepM (tr_synA S x y).2 w) := by
  refine tr_enterI RX1 rfl (by decide) (Nat.le_of_ble_eq_true rfl) ?_
  intro p e s m below meth c0 A ls S0 hret hlk hK hP hD hS hA hl
  have hx := S0.1
  have hb := S0.2.1
  have hl : lv_has ls 4 [(0, .ref (h 0)), (1, .int x), (2, .int y)] := hl
  refine lv_iload_n hx hb dX1_sync_0 rfl (lv_at hl 1 rfl) ?_
  refine tr_callS (As := [.int x]) (rest := []) S0 (tr_M_bad l x) 1 (lw_S q187 q188 q18 q189) (by decide +kernel) ⟨Nat.le_of_ble_eq_true rfl, Nat.le_of_ble_eq_true rfl⟩ hP hS hA rfl hl.1 rfl (Nat.le_of_ble_eq_true rfl) dX1_sync_1 ⟨Nat.le_of_ble_eq_true rfl, Nat.le_of_ble_eq_true rfl⟩ (fun r1 hw1 H locs hP hS => ?_)
  subst hw1
  refine tr_fneB (tgt := 14) hx hb dX1_sync_4 (by decide) (fun c4 => ?_) (fun c4 => ?_)
  · skip
    refine lv_iconst (v := (iI 0)) hx hb dX1_sync_14 (by decide +kernel) ?_
    exact tr_iret (wv := wM h cI cZ) (u := v) hx hb hret hlk hK hP hD hS dX1_sync_15 (⟨by rw [tr_synA_1 (tr_nt c4)], by rw [tr_synA_1 (tr_nt c4)]; exact hR⟩)
  · skip
    obtain ⟨f, hf, rfl⟩ := tr_ok_n (tr_nf c4)
    refine lv_iload_n hx hb dX1_sync_7 rfl (lv_at hl 2 rfl) ?_
    refine tr_callS (As := [.int y]) (rest := []) S0 (tr_M_bad l y) 1 (lw_S q187 q188 q18 q189) (by decide +kernel) ⟨Nat.le_of_ble_eq_true rfl, Nat.le_of_ble_eq_true rfl⟩ hP hS hA rfl hl.1 rfl (Nat.le_of_ble_eq_true rfl) dX1_sync_8 ⟨Nat.le_of_ble_eq_true rfl, Nat.le_of_ble_eq_true rfl⟩ (fun r8 hw8 H locs hP hS => ?_)
    subst hw8
    refine tr_feqB (tgt := 16) hx hb dX1_sync_11 (by decide) (fun c11 => ?_) (fun c11 => ?_)
    · skip
      obtain ⟨t, ht, rfl⟩ := tr_ok_n (tr_nf c11)
      have hn48 := hI.1.1.1
      refine lv_iconst (v := (nI 0)) hx hb dX1_sync_16 (by decide +kernel) ?_
      refine lv_istore_n (lv' := [(3, .int (nI 0)), (0, .ref (h 0)), (1, .int (nI f)), (2, .int (nI t))]) hx hb dX1_sync_17 rfl hl (by decide) rfl (fun ls hl => ?_)
      refine tr_loop (wv := wM h cI cZ) (τ := Nat × MW) (lv := fun st => [(0, .ref (h 0)), (1, .int (nI f)), (2, .int (nI t)), (3, .int (nI st.1))]) (ww := fun st => st.2) (I := fun st => st.1 ≤ S.n ∧ RepM (tr_syn S f t st.1) st.2) (μ := fun st => S.n - st.1) ?_ (0, v) ⟨Nat.zero_le _, hR⟩ hP hD hS (lv_sub hl [1, 2, 3, 0] rfl)
      rintro ⟨i, w⟩ ⟨hi, hRw⟩ ih H locs ls hP hD hS hl
      dsimp only at hi hRw hP hD ih
      have hl : lv_has ls 4 [(0, .ref (h 0)), (1, .int (nI f)), (2, .int (nI t)), (3, .int (nI i))] := hl
      have hsy := tr_syn_all hI hf ht i hi
      have hsn := hsy.2.1
      refine lv_iload_n hx hb dX1_sync_18 rfl (lv_at hl 3 rfl) ?_
      refine lv_aload_n hx hb dX1_sync_19 rfl (lv_at hl 0 rfl) ?_
      refine tr_mg (x := .int (nI S.n)) S0 hK hP 0 (by decide) q155 rfl (by rw [← hsn, ← hRw.made]; rfl) dX1_sync_20 ?_
      refine tr_cge (tgt := 58) hx hb dX1_sync_23 (by decide) (by omega) (by omega) (fun c23 => ?_) (fun c23 => ?_)
      · skip
        have ei : i = S.n := by omega
        subst ei
        refine lv_iconst (v := (nI 0)) hx hb dX1_sync_58 (by decide +kernel) ?_
        exact tr_iret (wv := wM h cI cZ) (u := w) hx hb hret hlk hK hP hD hS dX1_sync_59 (⟨by rw [tr_synA_3 hf ht], by rw [tr_synA_3 hf ht]; exact hRw⟩)
      · skip
        refine lv_aload_n hx hb dX1_sync_26 rfl (lv_at hl 0 rfl) ?_
        refine tr_mg (x := .ref (h 6)) S0 hK hP 6 (by decide) q161 rfl rfl dX1_sync_27 ?_
        refine lv_bipush (v := (nI 48)) hx hb dX1_sync_30 (by decide +kernel) ?_
        refine lv_iload_n hx hb dX1_sync_32 rfl (lv_at hl 1 rfl) ?_
        refine tr_imul (z := (nI (48 * f))) hx hb dX1_sync_33 (pk_mul _ _) ?_
        refine lv_iload_n hx hb dX1_sync_34 rfl (lv_at hl 3 rfl) ?_
        refine tr_iadd (z := (nI (48 * f + i))) hx hb dX1_sync_35 (nI_add _ _) ?_
        refine tr_zld (v := (bI (tr_kn (tr_syn S f t i) f i))) hx hb hK hP 6 1 rfl rfl (by decide) (by omega) (hRw.kn f hf i (by omega)) dX1_sync_36 ?_
        refine tr_feqB (tgt := 52) hx hb dX1_sync_37 (by decide) (fun c37 => ?_) (fun c37 => ?_)
        · skip
          refine lv_iinc (v := (nI (i + 1))) (lv' := [(3, .int (nI (i + 1))), (0, .ref (h 0)), (1, .int (nI f)), (2, .int (nI t))]) hx hb dX1_sync_52 hl (k := 3) rfl (nI_inc _) (by decide) rfl (fun ls hl => ?_)
          refine lv_goto (tgt := 18) hx hb dX1_sync_55 (by decide) ?_
          exact ih (i + 1, w) ⟨by dsimp only; omega, (by show RepM (tr_syn S f t (i + 1)) w; have e : tr_syn S f t (i + 1) = tr_syn S f t i := if_neg (fun q => (by have := q.1; rw [c37] at this; cases this)); rw [e]; exact hRw)⟩ (by dsimp only; omega) H locs ls hP hD hS (lv_sub hl [1, 2, 3, 0] rfl)
        · skip
          refine lv_aload_n hx hb dX1_sync_40 rfl (lv_at hl 0 rfl) ?_
          refine tr_mg (x := .ref (h 6)) S0 hK hP 6 (by decide) q161 rfl rfl dX1_sync_41 ?_
          refine lv_bipush (v := (nI 48)) hx hb dX1_sync_44 (by decide +kernel) ?_
          refine lv_iload_n hx hb dX1_sync_46 rfl (lv_at hl 2 rfl) ?_
          refine tr_imul (z := (nI (48 * t))) hx hb dX1_sync_47 (pk_mul _ _) ?_
          refine lv_iload_n hx hb dX1_sync_48 rfl (lv_at hl 3 rfl) ?_
          refine tr_iadd (z := (nI (48 * t + i))) hx hb dX1_sync_49 (nI_add _ _) ?_
          refine lv_iconst (v := (bI true)) hx hb dX1_sync_50 (by decide +kernel) ?_
          refine tr_zst (ws' := wM h cI cZ (sM w 6 (48 * t + i) (bI true))) hx hb hK hP hD hS 6 1 rfl rfl (by decide) (by omega) (bI_nar _) rfl dX1_sync_51 (fun H locs hP hD hS => ?_)
          have hR5 : RepM (tr_syn S f t (i + 1)) (sM w 6 (48 * t + i) (bI true)) := by
            cases hk : tr_kn (tr_syn S f t i) t i with
            | true =>
              have e : tr_syn S f t (i + 1) = tr_syn S f t i := if_neg (fun q => by have := q.2; rw [hk] at this; cases this)
              rw [e]
              refine hRw.scratch rfl (fun k hk2 => ?_)
              by_cases e6 : k = 6
              · subst e6
                show upd (w.2.2 6) (48 * t + i) (bI true) = w.2.2 6
                exact tr_upd_same (by rw [hRw.kn t ht i (by omega), hk])
              · exact tr_vn e6
            | false =>
              have e : tr_syn S f t (i + 1) = tr_learn (tr_syn S f t i) t i := if_pos ⟨c37, hk⟩
              obtain ⟨-, -, hnum, -⟩ := tr_synI_go hsy hI hf ht c23 c37 hk
              rw [e]
              exact hRw.learn ht (by omega) (by omega) hnum rfl (fun k hk2 => tr_vn (by omega)) rfl
          refine lv_iinc (v := (nI (i + 1))) (lv' := [(3, .int (nI (i + 1))), (0, .ref (h 0)), (1, .int (nI f)), (2, .int (nI t))]) hx hb dX1_sync_52 hl (k := 3) rfl (nI_inc _) (by decide) rfl (fun ls hl => ?_)
          refine lv_goto (tgt := 18) hx hb dX1_sync_55 (by decide) ?_
          exact ih (i + 1, (sM w 6 (48 * t + i) (bI true))) ⟨by dsimp only; omega, hR5⟩ (by dsimp only; omega) H locs ls hP hD hS (lv_sub hl [1, 2, 3, 0] rfl)
    · skip
      refine lv_iconst (v := (iI 0)) hx hb dX1_sync_14 (by decide +kernel) ?_
      exact tr_iret (wv := wM h cI cZ) (u := v) hx hb hret hlk hK hP hD hS dX1_sync_15 (⟨by rw [tr_synA_2 (tr_nt c11)], by rw [tr_synA_2 (tr_nt c11)]; exact hR⟩)
set_option maxHeartbeats 4000000 in
theorem tr_M_alike (l : Launch) (D : va_G) (h : Nat → Nat) (cI cZ : ClassId) (S : TS) (v : MW) (hR : RepM S v) (hI : tr_Inv S) (x y : Int32) : tr_MI l yX1_alike cX1_alike 5 (some .int) 5 119 D tr_cl (tr_ty cI cZ) (wM h cI cZ) [.ref (h 0), .int x, .int y] v (fun z w => z = tr_aliA S x y ∧ RepM S w) := by
  refine tr_enterI RX1 rfl (by decide) (Nat.le_of_ble_eq_true rfl) ?_
  intro p e s m below meth c0 A ls S0 hret hlk hK hP hD hS hA hl
  have hx := S0.1
  have hb := S0.2.1
  have hl : lv_has ls 5 [(0, .ref (h 0)), (1, .int x), (2, .int y)] := hl
  refine lv_iload_n hx hb dX1_alike_0 rfl (lv_at hl 1 rfl) ?_
  refine tr_callS (As := [.int x]) (rest := []) S0 (tr_M_bad l x) 1 (lw_S q187 q188 q18 q189) (by decide +kernel) ⟨Nat.le_of_ble_eq_true rfl, Nat.le_of_ble_eq_true rfl⟩ hP hS hA rfl hl.1 rfl (Nat.le_of_ble_eq_true rfl) dX1_alike_1 ⟨Nat.le_of_ble_eq_true rfl, Nat.le_of_ble_eq_true rfl⟩ (fun r1 hw1 H locs hP hS => ?_)
  subst hw1
  refine tr_fneB (tgt := 14) hx hb dX1_alike_4 (by decide) (fun c4 => ?_) (fun c4 => ?_)
  · skip
    refine lv_iconst (v := (iI 0)) hx hb dX1_alike_14 (by decide +kernel) ?_
    exact tr_iret (wv := wM h cI cZ) (u := v) hx hb hret hlk hK hP hD hS dX1_alike_15 (⟨(tr_aliA_1 (tr_nt c4)).symm, hR⟩)
  · skip
    obtain ⟨a, ha, rfl⟩ := tr_ok_n (tr_nf c4)
    refine lv_iload_n hx hb dX1_alike_7 rfl (lv_at hl 2 rfl) ?_
    refine tr_callS (As := [.int y]) (rest := []) S0 (tr_M_bad l y) 1 (lw_S q187 q188 q18 q189) (by decide +kernel) ⟨Nat.le_of_ble_eq_true rfl, Nat.le_of_ble_eq_true rfl⟩ hP hS hA rfl hl.1 rfl (Nat.le_of_ble_eq_true rfl) dX1_alike_8 ⟨Nat.le_of_ble_eq_true rfl, Nat.le_of_ble_eq_true rfl⟩ (fun r8 hw8 H locs hP hS => ?_)
    subst hw8
    refine tr_feqB (tgt := 16) hx hb dX1_alike_11 (by decide) (fun c11 => ?_) (fun c11 => ?_)
    · skip
      obtain ⟨b, hb0, rfl⟩ := tr_ok_n (tr_nf c11)
      have hn48 := hI.1.1.1
      have hra := hI.1.rowlen ha
      have hrb := hI.1.rowlen hb0
      have hta := tr_tx_le S a
      have htb := tr_tx_le S b
      refine lv_aload_n hx hb dX1_alike_16 rfl (lv_at hl 0 rfl) ?_
      refine lv_iload_n hx hb dX1_alike_17 rfl (lv_at hl 1 rfl) ?_
      refine tr_callI (As := [.int (nI a)]) (rest := []) S0 (tr_M_length l D h cI cZ S v hR hI (nI a)) 1 (lw_V q222 q223 q224 q18 q225) (by decide +kernel) ⟨Nat.le_of_ble_eq_true rfl, Nat.le_of_ble_eq_true rfl⟩ hK hP hD hS hA rfl rfl rfl hl.1 rfl (Nat.le_of_ble_eq_true rfl) dX1_alike_18 ⟨Nat.le_of_ble_eq_true rfl, Nat.le_of_ble_eq_true rfl⟩ (fun r18 w1 H locs hw18 hP hD hS => ?_)
      obtain ⟨e18, hR1⟩ := hw18
      rw [tr_lenA_2 ha] at e18
      subst e18
      refine lv_istore_n (lv' := [(3, .int (nI ((tr_tx S a).length))), (0, .ref (h 0)), (1, .int (nI a)), (2, .int (nI b))]) hx hb dX1_alike_21 rfl hl (by decide) rfl (fun ls hl => ?_)
      refine lv_aload_n hx hb dX1_alike_22 rfl (lv_at hl 1 rfl) ?_
      refine lv_iload_n hx hb dX1_alike_23 rfl (lv_at hl 3 rfl) ?_
      refine tr_callI (As := [.int (nI b)]) (rest := []) S0 (tr_M_length l D h cI cZ S w1 hR1 hI (nI b)) 1 (lw_V q222 q223 q224 q18 q225) (by decide +kernel) ⟨Nat.le_of_ble_eq_true rfl, Nat.le_of_ble_eq_true rfl⟩ hK hP hD hS hA rfl rfl rfl hl.1 rfl (Nat.le_of_ble_eq_true rfl) dX1_alike_24 ⟨Nat.le_of_ble_eq_true rfl, Nat.le_of_ble_eq_true rfl⟩ (fun r24 w2 H locs hw24 hP hD hS => ?_)
      obtain ⟨e24, hR2⟩ := hw24
      rw [tr_lenA_2 hb0] at e24
      subst e24
      refine lv_iload_n hx hb dX1_alike_27 rfl (lv_at hl 0 rfl) ?_
      refine tr_ceq (tgt := 33) hx hb dX1_alike_28 (by decide) (by omega) (by omega) (fun c28 => ?_) (fun c28 => ?_)
      · skip
        refine lv_iconst (v := (nI 0)) hx hb dX1_alike_33 (by decide +kernel) ?_
        refine lv_istore (lv' := [(4, .int (nI 0)), (3, .int (nI ((tr_tx S a).length))), (0, .ref (h 0)), (1, .int (nI a)), (2, .int (nI b))]) hx hb dX1_alike_34 hl (by decide) rfl (fun ls hl => ?_)
        refine tr_loop (wv := wM h cI cZ) (τ := Nat × MW) (lv := fun st => [(0, .ref (h 0)), (1, .int (nI a)), (2, .int (nI b)), (3, .int (nI ((tr_tx S a).length))), (4, .int (nI st.1))]) (ww := fun st => st.2) (I := fun st => st.1 ≤ (tr_tx S a).length ∧ RepM S st.2 ∧ ∀ j, j < st.1 → S.le ((tr_tx S a).getD j 0) = S.le ((tr_tx S b).getD j 0)) (μ := fun st => (tr_tx S a).length - st.1) ?_ (0, w2) ⟨Nat.zero_le _, hR2, fun j hj => absurd hj (by dsimp only; omega)⟩ hP hD hS (lv_sub hl [2, 3, 4, 1, 0] rfl)
        rintro ⟨i, w⟩ ⟨hi, hRw, hsame⟩ ih H locs ls hP hD hS hl
        dsimp only at hi hRw hsame hP hD ih
        have hl : lv_has ls 5 [(0, .ref (h 0)), (1, .int (nI a)), (2, .int (nI b)), (3, .int (nI ((tr_tx S a).length))), (4, .int (nI i))] := hl
        refine lv_iload hx hb dX1_alike_36 (lv_at hl 4 rfl) ?_
        refine lv_iload_n hx hb dX1_alike_38 rfl (lv_at hl 3 rfl) ?_
        refine tr_cge (tgt := 67) hx hb dX1_alike_39 (by decide) (by omega) (by omega) (fun c39 => ?_) (fun c39 => ?_)
        · skip
          refine lv_iconst (v := (bI true)) hx hb dX1_alike_67 (by decide +kernel) ?_
          exact tr_iret (wv := wM h cI cZ) (u := w) hx hb hret hlk hK hP hD hS dX1_alike_68 (⟨by rw [tr_aliA_3 ha hb0, decide_eq_true (tr_map_eq c28.symm (fun j hj => hsame j (by omega)))], hRw⟩)
        · skip
          refine lv_aload_n hx hb dX1_alike_42 rfl (lv_at hl 0 rfl) ?_
          refine lv_iload_n hx hb dX1_alike_43 rfl (lv_at hl 1 rfl) ?_
          refine lv_iload hx hb dX1_alike_44 (lv_at hl 4 rfl) ?_
          refine tr_callI (As := [.int (nI a), .int (nI i)]) (rest := []) S0 (tr_M_letter l D h cI cZ S w hRw hI (nI a) (nI i)) 2 (lw_V q255 q240 q241 q18 q242) (by decide +kernel) ⟨Nat.le_of_ble_eq_true rfl, Nat.le_of_ble_eq_true rfl⟩ hK hP hD hS hA rfl rfl rfl hl.1 rfl (Nat.le_of_ble_eq_true rfl) dX1_alike_46 ⟨Nat.le_of_ble_eq_true rfl, Nat.le_of_ble_eq_true rfl⟩ (fun r46 w3 H locs hw46 hP hD hS => ?_)
          obtain ⟨e46, hR3⟩ := hw46
          rw [tr_letA_4 ha (by omega) (c39) (by omega)] at e46
          subst e46
          refine lv_aload_n hx hb dX1_alike_49 rfl (lv_at hl 0 rfl) ?_
          refine lv_iload_n hx hb dX1_alike_50 rfl (lv_at hl 2 rfl) ?_
          refine lv_iload hx hb dX1_alike_51 (lv_at hl 4 rfl) ?_
          refine tr_callI (As := [.int (nI b), .int (nI i)]) (rest := [.int ((S.le ((tr_tx S a).getD i 0)))]) S0 (tr_M_letter l D h cI cZ S w3 hR3 hI (nI b) (nI i)) 2 (lw_V q255 q240 q241 q18 q242) (by decide +kernel) ⟨Nat.le_of_ble_eq_true rfl, Nat.le_of_ble_eq_true rfl⟩ hK hP hD hS hA rfl rfl rfl hl.1 rfl (Nat.le_of_ble_eq_true rfl) dX1_alike_53 ⟨Nat.le_of_ble_eq_true rfl, Nat.le_of_ble_eq_true rfl⟩ (fun r53 w4 H locs hw53 hP hD hS => ?_)
          obtain ⟨e53, hR4⟩ := hw53
          rw [tr_letA_4 hb0 (by omega) (by omega) (by omega)] at e53
          subst e53
          refine lv_icmp_eq (tgt := 61) hx hb dX1_alike_56 (by decide) (fun c56 => ?_) (fun c56 => ?_)
          · skip
            refine lv_iinc (v := (nI (i + 1))) (lv' := [(4, .int (nI (i + 1))), (0, .ref (h 0)), (1, .int (nI a)), (2, .int (nI b)), (3, .int (nI ((tr_tx S a).length)))]) hx hb dX1_alike_61 hl (k := 4) rfl (nI_inc _) (by decide) rfl (fun ls hl => ?_)
            refine lv_goto (tgt := 36) hx hb dX1_alike_64 (by decide) ?_
            exact ih (i + 1, w4) ⟨by dsimp only; omega, hR4, fun j hj => (by by_cases e : j = i; (subst e; exact c56); exact hsame j (by dsimp only at hj; omega))⟩ (by dsimp only; omega) H locs ls hP hD hS (lv_sub hl [1, 2, 3, 4, 0] rfl)
          · skip
            refine lv_iconst (v := (bI false)) hx hb dX1_alike_59 (by decide +kernel) ?_
            exact tr_iret (wv := wM h cI cZ) (u := w4) hx hb hret hlk hK hP hD hS dX1_alike_60 (⟨by rw [tr_aliA_3 ha hb0, decide_eq_false (fun q => c56 (tr_map_at q c39))], hR4⟩)
      · skip
        refine lv_iconst (v := (bI false)) hx hb dX1_alike_31 (by decide +kernel) ?_
        exact tr_iret (wv := wM h cI cZ) (u := w2) hx hb hret hlk hK hP hD hS dX1_alike_32 (⟨by rw [tr_aliA_3 ha hb0, decide_eq_false (fun q => c28 (by have := congrArg List.length q; rw [List.length_map, List.length_map] at this; exact this.symm))], hR2⟩)
    · skip
      refine lv_iconst (v := (iI 0)) hx hb dX1_alike_14 (by decide +kernel) ?_
      exact tr_iret (wv := wM h cI cZ) (u := v) hx hb hret hlk hK hP hD hS dX1_alike_15 (⟨(tr_aliA_2 (tr_nt c11)).symm, hR⟩)
end
section
/-! the constructors, and the empty state (printed by gen/ctor.py) -/
set_option maxRecDepth 100000
def tr_S0 : TS := (0, fun _ => 0, fun _ => false, fun _ => 0, fun _ => 0, fun _ => 0, fun _ _ => 0, fun _ => [], fun _ _ => false, fun _ => 0)
theorem tr_Inv_0 : tr_Inv tr_S0 := by
  have h0 : tr_S0.n = 0 := rfl
  refine ⟨⟨⟨by rw [h0]; decide, fun c hc => absurd hc (by rw [h0]; omega)⟩, fun c d hc => absurd hc (by rw [h0]; omega), fun r hr o ho => Nat.zero_le _, fun r hr c hc => absurd hc (by rw [h0]; omega), fun r hr => ⟨List.Pairwise.nil, fun c => ⟨fun h => absurd h List.not_mem_nil, fun h => absurd h.1 (by rw [h0]; omega)⟩⟩, fun r hr c hc => absurd hc List.not_mem_nil, fun r hr => ⟨fun c hc => absurd hc.1 (by rw [h0]; omega), Or.inl rfl⟩⟩, fun r hr => rfl⟩
/-- a constructor's contract: it makes mc cells of ms slots -/
def tr_MC (l : Launch) (y : MethodName) (b : ByteArray) (L fr lo mc ms : Nat) (D : va_G) (cl : List vw_C) (tys : List (ClassId × FieldType)) (ws0 : va_W) {σ : Type} (wv : σ → va_W) (As : List Value) (post : σ → Prop) : Prop :=
  ∀ sz, Met l y (ws_ y b L none) { frames := fr, cells := mc, slots := ms, locals := lo } (va_Pc As (tr_pre D cl tys ws0 sz)) (va_Qv post (tr_B D cl tys wv (va_A ws0 sz)) (va_A ws0 sz)) mc ms (va_A ws0 sz)
section TRK
variable {l : Launch} {D : va_G} {cl : List vw_C} {tys : List (ClassId × FieldType)} {σ : Type} {wv : σ → va_W} {y : MethodName} {bytes : ByteArray} {maxL fr lo mc ms : Nat} {As : List Value} {ws0 : va_W}
theorem tr_enterC {post : σ → Prop} (own : String) (hown : y.cls = own) (hname : y.name = "<init>") (hy : plainName y.cls = true) (hlen : (lg_sl As).length ≤ maxL)
    (body : ∀ (p : Program) (e : Env) (s : State) (m : MethodId) (below : List Frame) (meth : Method) (c : Code) (A : Nat → Prop) (ls : Array Slot), CallFix p m c bytes maxL s As.toArray lw_all own → meth.sig.returnType = none → meth.locks = false → meth.name = "<init>" → va_K D cl tys s → va_P D cl ws0 s.heap → va_D A ws0 → va_S A s.heap s.heap [] → (∀ q : Nat, s.heap.size ≤ q → A q) → lv_has ls maxL (lv_args 0 As) →
      W p l e { frames := fr, cells := mc, slots := ms, locals := lo } s m As.toArray below meth c s.heap [] 0 0 (MQ below (va_Qv post (tr_B D cl tys wv A) A) As.toArray s mc ms A) (F0 m 0 ls [])) : tr_MC l y bytes maxL fr lo mc ms D cl tys ws0 wv As post := by
  intro sz
  refine Met.ofW (cc := bytes) (maxL := maxL) (ret := none) hy rfl ?_
  intro p e s m args below meth c s₁ B hml hv
  obtain ⟨rfl, hsz, hP, hK, hD0⟩ := hv
  have hts := atoms_spec (ws := ws_ y bytes maxL none) B.pre
  have hts : ∀ w ∈ lw_all, w.before _ s = true := fun w h => hts w (List.mem_cons_of_mem _ h)
  have ho : s.vm.findClass own = some m.cls := by rw [← hown]; exact findClass_of_methodNamed B.named
  have hin : meth.name = "<init>" := by rw [← hname]; exact (name_of_methodNamed B.named B.method).1
  subst hsz
  have hD := hD0.self (sz := s.heap.size)
  have hA : ∀ q : Nat, s.heap.size ≤ q → va_A ws0 s.heap.size q := fun q h => Or.inr h
  have hl := lv_entry As (n := maxL) hlen
  rw [lg_entry_eq]
  exact body p e s m below meth c _ _ ⟨B.exec, B.bytes, hml, ho, hts⟩ B.returns B.notSynchronized hin hK hP hD va_S.rf hA hl
variable {p : Program} {e : Env} {R : Room} {s : State} {m : MethodId} {args : Array Value} {below : List Frame} {meth : Method} {c : Code} {H H0 : Heap} {locs : List Loc} {cells slots : Nat} {Q : State → Prop}
variable {cc : ByteArray} {pc : Nat} {ls : Array Slot} {rest : List Value} {A : Nat → Prop} {ws : va_W} {cI cZ : ClassId}
theorem tr_newI (hx : p.tables.exec = Jvm.exec) (hb : c.code = cc) (harr : (Cond.arrayClass .int).before args s = true) (hK : va_K D cl (tr_ty cI cZ) s) (hP : va_P D cl ws H) (hD : va_D A ws) (hS : va_S A H0 H locs) (hA : ∀ q, H0.size ≤ q → A q) {N : Nat} (hN : N < 1000) (hcells : cells + 1 ≤ R.cells) (hslots : slots + N ≤ R.slots) (hdg : decode cc pc = .ok (.newarray .int, 2))
    (kk : ∀ (q : Nat) (H1 : Heap), va_P D cl (ws ++ [(q, .inl (cI, N, .inl (fun _ => 0)))]) H1 → va_D A (ws ++ [(q, .inl (cI, N, .inl (fun _ => 0)))]) → va_S A H0 H1 locs → W p l e R s m args below meth c H1 locs (cells + 1) (slots + N) Q (F0 m (pc + 2) ls (.ref q :: rest))) : W p l e R s m args below meth c H locs cells slots Q (F0 m pc ls (.int (nI N) :: rest)) := by
  refine va_newa (ty := .int) (a0 := (N, .inl (fun _ => 0))) hx hb (atype := .int) harr rfl hK hP hD hS hA (fun cA => rfl) (nI_pos (by omega)) (nI_clamp (by omega)) (by show N * 4 ≤ _; omega) hcells hslots hdg (fun q cA H1 hK2 hP2 hD2 hS2 => ?_)
  have e1 : s.vm.findClass ("[" ++ FieldType.int.toString) = some cA := (hK2.2 2 (cA, .int) rfl).2
  have e2 : s.vm.findClass ("[" ++ FieldType.int.toString) = some cI := (hK.2 0 (cI, .int) rfl).2
  have e3 : cA = cI := Option.some.inj (e1.symm.trans e2)
  subst e3
  exact kk q H1 hP2 hD2 hS2
theorem tr_newZ (hx : p.tables.exec = Jvm.exec) (hb : c.code = cc) (harr : (Cond.arrayClass .boolean).before args s = true) (hK : va_K D cl (tr_ty cI cZ) s) (hP : va_P D cl ws H) (hD : va_D A ws) (hS : va_S A H0 H locs) (hA : ∀ q, H0.size ≤ q → A q) {N : Nat} (hN : N < 1000) (hcells : cells + 1 ≤ R.cells) (hslots : slots + N ≤ R.slots) (hdg : decode cc pc = .ok (.newarray .boolean, 2))
    (kk : ∀ (q : Nat) (H1 : Heap), va_P D cl (ws ++ [(q, .inl (cZ, N, .inl (fun _ => 0)))]) H1 → va_D A (ws ++ [(q, .inl (cZ, N, .inl (fun _ => 0)))]) → va_S A H0 H1 locs → W p l e R s m args below meth c H1 locs (cells + 1) (slots + N) Q (F0 m (pc + 2) ls (.ref q :: rest))) : W p l e R s m args below meth c H locs cells slots Q (F0 m pc ls (.int (nI N) :: rest)) := by
  refine va_newa (ty := .boolean) (a0 := (N, .inl (fun _ => 0))) hx hb (atype := .boolean) harr rfl hK hP hD hS hA (fun cA => rfl) (nI_pos (by omega)) (nI_clamp (by omega)) (by show N * 1 ≤ _; omega) hcells hslots hdg (fun q cA H1 hK2 hP2 hD2 hS2 => ?_)
  have e1 : s.vm.findClass ("[" ++ FieldType.boolean.toString) = some cA := (hK2.2 2 (cA, .boolean) rfl).2
  have e2 : s.vm.findClass ("[" ++ FieldType.boolean.toString) = some cZ := (hK.2 1 (cZ, .boolean) rfl).2
  have e3 : cA = cZ := Option.some.inj (e1.symm.trans e2)
  subst e3
  exact kk q H1 hP2 hD2 hS2
end TRK
abbrev tr_nX : List Value := [.int 0, .null, .null, .null, .null, .null, .null, .null, .null, .null, .null, .null, .null, .null, .null, .null]
abbrev tr_nM : List Value := [.int 0, .null, .null, .null, .null, .null, .null, .int 0, .null]
abbrev wvX (cI cZ : ClassId) (st : (Nat → Nat) × XW) : va_W := wX st.1 cI cZ st.2
abbrev wvM (cI cZ : ClassId) (st : (Nat → Nat) × MW) : va_W := wM st.1 cI cZ st.2
theorem RepX_0 : RepX tr_S0 (sX (sX (sX (0, fun _ _ => 0) 12 (49 * 0) (iI 0)) 12 (49 * 1) (iI 0)) 12 (49 * 2) (iI 0)) := by
  have h0 : tr_S0.n = 0 := rfl
  have no : ∀ c, ¬ c < tr_S0.n := fun c hc => by rw [h0] at hc; omega
  refine ⟨by decide +kernel, fun c hc => absurd hc (no c), fun c hc => absurd hc (no c), fun c hc => absurd hc (no c), fun c hc => absurd hc (no c), fun c hc => absurd hc (no c), fun c hc => absurd hc (no c), fun c hc => absurd hc (no c), fun r hr => nI_0.symm, fun c hc => absurd hc (no c), fun r hr o ho => nI_0.symm, fun r hr => nI_0.symm, fun r hr => ?_, fun r hr c hc => absurd hc List.not_mem_nil, fun r hr => nI_0.symm, fun r hr => nI_0.symm⟩
  show upd (upd (upd (fun _ => 0) (49 * 0) (iI 0)) (49 * 1) (iI 0)) (49 * 2) (iI 0) (49 * r + 0) = iI 0
  have h3 : r = 0 ∨ r = 1 ∨ r = 2 := by omega
  rcases h3 with e | e | e
  · subst e
    rw [tr_u_n (by decide), tr_u_n (by decide)]
    exact tr_u_s
  · subst e
    rw [tr_u_n (by decide)]
    exact tr_u_s
  · subst e
    exact tr_u_s
theorem RepM_0 : RepM tr_S0 (0, 0, fun _ _ => 0) := by
  have h0 : tr_S0.n = 0 := rfl
  have no : ∀ c, ¬ c < tr_S0.n := fun c hc => by rw [h0] at hc; omega
  exact ⟨by decide +kernel, fun c hc => absurd hc (no c), fun c hc => absurd hc (no c), fun c hc => absurd hc (no c), fun c hc => absurd hc (no c), fun c hc => absurd hc (no c), fun r hr c hc => absurd hc (no c), fun r hr c hc hc2 => rfl⟩
set_option maxHeartbeats 4000000 in
theorem tr_X_init (l : Launch) (D : va_G) (cI cZ : ClassId) (h0 : Nat) : tr_MC l yX0_init cX0_init 2 1 12 15 798 D tr_cl (tr_ty cI cZ) [(h0, .inr (0, tr_nX))] (wvX cI cZ) [.ref h0] (fun st => st.1 0 = h0 ∧ RepX tr_S0 st.2) := by
  refine tr_enterC RX0 rfl rfl (by decide) (Nat.le_of_ble_eq_true rfl) ?_
  intro p e s m below meth c0 A ls S0 hret hlk hin hK hP hD hS hA hl
  have hx := S0.1
  have hb := S0.2.1
  have hts := S0.2.2.2.2
  have hl : lv_has ls 2 [(0, .ref h0)] := hl
  refine lv_aload_n hx hb dX0_init_0 rfl (lv_at hl 0 rfl) ?_
  refine W.objInit hx hb S0.2.2.2.1 (hts _ q24) (hts _ q25) (hts _ q26) rfl (by rw [S0.2.2.1]; exact hl.1) rfl dX0_init_1 (Nat.le_of_ble_eq_true rfl) (Nat.le_of_ble_eq_true rfl) ?_
  refine W.eq (g2 := F0 m 4 ls []) rfl ?_
  refine lv_aload_n hx hb dX0_init_4 rfl (lv_at hl 0 rfl) ?_
  refine lv_bipush (v := (nI 48)) hx hb dX0_init_5 (by decide +kernel) ?_
  refine tr_newZ hx hb (hts _ q76) hK hP hD hS hA (by decide) (Nat.le_of_ble_eq_true rfl) (Nat.le_of_ble_eq_true rfl) dX0_init_7 (fun q1 H hP hD hS => ?_)
  have hP : va_P D tr_cl [(h0, .inr (0, [.int 0, .null, .null, .null, .null, .null, .null, .null, .null, .null, .null, .null, .null, .null, .null, .null])), (q1, .inl (cZ, 48, .inl (fun _ => 0)))] H := hP
  have hD : va_D A [(h0, .inr (0, [.int 0, .null, .null, .null, .null, .null, .null, .null, .null, .null, .null, .null, .null, .null, .null, .null])), (q1, .inl (cZ, 48, .inl (fun _ => 0)))] := hD
  refine va_putF (D := D) (ci := 0) (v := .ref q1) (ty := .array .boolean) (C := RX0) (T := TX0) (N := 16) hx hb hts in_X0 tyX0 tyX0_ok nmX0 S0.2.2.2.1 hK hP hD hS 0 rfl rfl 1 (by decide) (hts _ q28) (fun _ h9 => h9) rfl hin rfl (by decide +kernel) rfl rfl (Nat.le_of_ble_eq_true rfl) dX0_init_9 (fun H locs hP hD hS => ?_)
  have hP : va_P D tr_cl [(h0, .inr (0, [.int 0, .ref q1, .null, .null, .null, .null, .null, .null, .null, .null, .null, .null, .null, .null, .null, .null])), (q1, .inl (cZ, 48, .inl (fun _ => 0)))] H := hP
  have hD : va_D A [(h0, .inr (0, [.int 0, .ref q1, .null, .null, .null, .null, .null, .null, .null, .null, .null, .null, .null, .null, .null, .null])), (q1, .inl (cZ, 48, .inl (fun _ => 0)))] := hD
  refine lv_aload_n hx hb dX0_init_12 rfl (lv_at hl 0 rfl) ?_
  refine lv_bipush (v := (nI 48)) hx hb dX0_init_13 (by decide +kernel) ?_
  refine tr_newI hx hb (hts _ q77) hK hP hD hS hA (by decide) (Nat.le_of_ble_eq_true rfl) (Nat.le_of_ble_eq_true rfl) dX0_init_15 (fun q2 H hP hD hS => ?_)
  have hP : va_P D tr_cl [(h0, .inr (0, [.int 0, .ref q1, .null, .null, .null, .null, .null, .null, .null, .null, .null, .null, .null, .null, .null, .null])), (q1, .inl (cZ, 48, .inl (fun _ => 0))), (q2, .inl (cI, 48, .inl (fun _ => 0)))] H := hP
  have hD : va_D A [(h0, .inr (0, [.int 0, .ref q1, .null, .null, .null, .null, .null, .null, .null, .null, .null, .null, .null, .null, .null, .null])), (q1, .inl (cZ, 48, .inl (fun _ => 0))), (q2, .inl (cI, 48, .inl (fun _ => 0)))] := hD
  refine va_putF (D := D) (ci := 0) (v := .ref q2) (ty := .array .int) (C := RX0) (T := TX0) (N := 16) hx hb hts in_X0 tyX0 tyX0_ok nmX0 S0.2.2.2.1 hK hP hD hS 0 rfl rfl 2 (by decide) (hts _ q29) (fun _ h9 => h9) rfl hin rfl (by decide +kernel) rfl rfl (Nat.le_of_ble_eq_true rfl) dX0_init_17 (fun H locs hP hD hS => ?_)
  have hP : va_P D tr_cl [(h0, .inr (0, [.int 0, .ref q1, .ref q2, .null, .null, .null, .null, .null, .null, .null, .null, .null, .null, .null, .null, .null])), (q1, .inl (cZ, 48, .inl (fun _ => 0))), (q2, .inl (cI, 48, .inl (fun _ => 0)))] H := hP
  have hD : va_D A [(h0, .inr (0, [.int 0, .ref q1, .ref q2, .null, .null, .null, .null, .null, .null, .null, .null, .null, .null, .null, .null, .null])), (q1, .inl (cZ, 48, .inl (fun _ => 0))), (q2, .inl (cI, 48, .inl (fun _ => 0)))] := hD
  refine lv_aload_n hx hb dX0_init_20 rfl (lv_at hl 0 rfl) ?_
  refine lv_bipush (v := (nI 48)) hx hb dX0_init_21 (by decide +kernel) ?_
  refine tr_newI hx hb (hts _ q77) hK hP hD hS hA (by decide) (Nat.le_of_ble_eq_true rfl) (Nat.le_of_ble_eq_true rfl) dX0_init_23 (fun q3 H hP hD hS => ?_)
  have hP : va_P D tr_cl [(h0, .inr (0, [.int 0, .ref q1, .ref q2, .null, .null, .null, .null, .null, .null, .null, .null, .null, .null, .null, .null, .null])), (q1, .inl (cZ, 48, .inl (fun _ => 0))), (q2, .inl (cI, 48, .inl (fun _ => 0))), (q3, .inl (cI, 48, .inl (fun _ => 0)))] H := hP
  have hD : va_D A [(h0, .inr (0, [.int 0, .ref q1, .ref q2, .null, .null, .null, .null, .null, .null, .null, .null, .null, .null, .null, .null, .null])), (q1, .inl (cZ, 48, .inl (fun _ => 0))), (q2, .inl (cI, 48, .inl (fun _ => 0))), (q3, .inl (cI, 48, .inl (fun _ => 0)))] := hD
  refine va_putF (D := D) (ci := 0) (v := .ref q3) (ty := .array .int) (C := RX0) (T := TX0) (N := 16) hx hb hts in_X0 tyX0 tyX0_ok nmX0 S0.2.2.2.1 hK hP hD hS 0 rfl rfl 3 (by decide) (hts _ q30) (fun _ h9 => h9) rfl hin rfl (by decide +kernel) rfl rfl (Nat.le_of_ble_eq_true rfl) dX0_init_25 (fun H locs hP hD hS => ?_)
  have hP : va_P D tr_cl [(h0, .inr (0, [.int 0, .ref q1, .ref q2, .ref q3, .null, .null, .null, .null, .null, .null, .null, .null, .null, .null, .null, .null])), (q1, .inl (cZ, 48, .inl (fun _ => 0))), (q2, .inl (cI, 48, .inl (fun _ => 0))), (q3, .inl (cI, 48, .inl (fun _ => 0)))] H := hP
  have hD : va_D A [(h0, .inr (0, [.int 0, .ref q1, .ref q2, .ref q3, .null, .null, .null, .null, .null, .null, .null, .null, .null, .null, .null, .null])), (q1, .inl (cZ, 48, .inl (fun _ => 0))), (q2, .inl (cI, 48, .inl (fun _ => 0))), (q3, .inl (cI, 48, .inl (fun _ => 0)))] := hD
  refine lv_aload_n hx hb dX0_init_28 rfl (lv_at hl 0 rfl) ?_
  refine lv_bipush (v := (nI 48)) hx hb dX0_init_29 (by decide +kernel) ?_
  refine tr_newI hx hb (hts _ q77) hK hP hD hS hA (by decide) (Nat.le_of_ble_eq_true rfl) (Nat.le_of_ble_eq_true rfl) dX0_init_31 (fun q4 H hP hD hS => ?_)
  have hP : va_P D tr_cl [(h0, .inr (0, [.int 0, .ref q1, .ref q2, .ref q3, .null, .null, .null, .null, .null, .null, .null, .null, .null, .null, .null, .null])), (q1, .inl (cZ, 48, .inl (fun _ => 0))), (q2, .inl (cI, 48, .inl (fun _ => 0))), (q3, .inl (cI, 48, .inl (fun _ => 0))), (q4, .inl (cI, 48, .inl (fun _ => 0)))] H := hP
  have hD : va_D A [(h0, .inr (0, [.int 0, .ref q1, .ref q2, .ref q3, .null, .null, .null, .null, .null, .null, .null, .null, .null, .null, .null, .null])), (q1, .inl (cZ, 48, .inl (fun _ => 0))), (q2, .inl (cI, 48, .inl (fun _ => 0))), (q3, .inl (cI, 48, .inl (fun _ => 0))), (q4, .inl (cI, 48, .inl (fun _ => 0)))] := hD
  refine va_putF (D := D) (ci := 0) (v := .ref q4) (ty := .array .int) (C := RX0) (T := TX0) (N := 16) hx hb hts in_X0 tyX0 tyX0_ok nmX0 S0.2.2.2.1 hK hP hD hS 0 rfl rfl 4 (by decide) (hts _ q31) (fun _ h9 => h9) rfl hin rfl (by decide +kernel) rfl rfl (Nat.le_of_ble_eq_true rfl) dX0_init_33 (fun H locs hP hD hS => ?_)
  have hP : va_P D tr_cl [(h0, .inr (0, [.int 0, .ref q1, .ref q2, .ref q3, .ref q4, .null, .null, .null, .null, .null, .null, .null, .null, .null, .null, .null])), (q1, .inl (cZ, 48, .inl (fun _ => 0))), (q2, .inl (cI, 48, .inl (fun _ => 0))), (q3, .inl (cI, 48, .inl (fun _ => 0))), (q4, .inl (cI, 48, .inl (fun _ => 0)))] H := hP
  have hD : va_D A [(h0, .inr (0, [.int 0, .ref q1, .ref q2, .ref q3, .ref q4, .null, .null, .null, .null, .null, .null, .null, .null, .null, .null, .null])), (q1, .inl (cZ, 48, .inl (fun _ => 0))), (q2, .inl (cI, 48, .inl (fun _ => 0))), (q3, .inl (cI, 48, .inl (fun _ => 0))), (q4, .inl (cI, 48, .inl (fun _ => 0)))] := hD
  refine lv_aload_n hx hb dX0_init_36 rfl (lv_at hl 0 rfl) ?_
  refine lv_bipush (v := (nI 48)) hx hb dX0_init_37 (by decide +kernel) ?_
  refine tr_newI hx hb (hts _ q77) hK hP hD hS hA (by decide) (Nat.le_of_ble_eq_true rfl) (Nat.le_of_ble_eq_true rfl) dX0_init_39 (fun q5 H hP hD hS => ?_)
  have hP : va_P D tr_cl [(h0, .inr (0, [.int 0, .ref q1, .ref q2, .ref q3, .ref q4, .null, .null, .null, .null, .null, .null, .null, .null, .null, .null, .null])), (q1, .inl (cZ, 48, .inl (fun _ => 0))), (q2, .inl (cI, 48, .inl (fun _ => 0))), (q3, .inl (cI, 48, .inl (fun _ => 0))), (q4, .inl (cI, 48, .inl (fun _ => 0))), (q5, .inl (cI, 48, .inl (fun _ => 0)))] H := hP
  have hD : va_D A [(h0, .inr (0, [.int 0, .ref q1, .ref q2, .ref q3, .ref q4, .null, .null, .null, .null, .null, .null, .null, .null, .null, .null, .null])), (q1, .inl (cZ, 48, .inl (fun _ => 0))), (q2, .inl (cI, 48, .inl (fun _ => 0))), (q3, .inl (cI, 48, .inl (fun _ => 0))), (q4, .inl (cI, 48, .inl (fun _ => 0))), (q5, .inl (cI, 48, .inl (fun _ => 0)))] := hD
  refine va_putF (D := D) (ci := 0) (v := .ref q5) (ty := .array .int) (C := RX0) (T := TX0) (N := 16) hx hb hts in_X0 tyX0 tyX0_ok nmX0 S0.2.2.2.1 hK hP hD hS 0 rfl rfl 5 (by decide) (hts _ q32) (fun _ h9 => h9) rfl hin rfl (by decide +kernel) rfl rfl (Nat.le_of_ble_eq_true rfl) dX0_init_41 (fun H locs hP hD hS => ?_)
  have hP : va_P D tr_cl [(h0, .inr (0, [.int 0, .ref q1, .ref q2, .ref q3, .ref q4, .ref q5, .null, .null, .null, .null, .null, .null, .null, .null, .null, .null])), (q1, .inl (cZ, 48, .inl (fun _ => 0))), (q2, .inl (cI, 48, .inl (fun _ => 0))), (q3, .inl (cI, 48, .inl (fun _ => 0))), (q4, .inl (cI, 48, .inl (fun _ => 0))), (q5, .inl (cI, 48, .inl (fun _ => 0)))] H := hP
  have hD : va_D A [(h0, .inr (0, [.int 0, .ref q1, .ref q2, .ref q3, .ref q4, .ref q5, .null, .null, .null, .null, .null, .null, .null, .null, .null, .null])), (q1, .inl (cZ, 48, .inl (fun _ => 0))), (q2, .inl (cI, 48, .inl (fun _ => 0))), (q3, .inl (cI, 48, .inl (fun _ => 0))), (q4, .inl (cI, 48, .inl (fun _ => 0))), (q5, .inl (cI, 48, .inl (fun _ => 0)))] := hD
  refine lv_aload_n hx hb dX0_init_44 rfl (lv_at hl 0 rfl) ?_
  refine lv_bipush (v := (nI 48)) hx hb dX0_init_45 (by decide +kernel) ?_
  refine tr_newI hx hb (hts _ q77) hK hP hD hS hA (by decide) (Nat.le_of_ble_eq_true rfl) (Nat.le_of_ble_eq_true rfl) dX0_init_47 (fun q6 H hP hD hS => ?_)
  have hP : va_P D tr_cl [(h0, .inr (0, [.int 0, .ref q1, .ref q2, .ref q3, .ref q4, .ref q5, .null, .null, .null, .null, .null, .null, .null, .null, .null, .null])), (q1, .inl (cZ, 48, .inl (fun _ => 0))), (q2, .inl (cI, 48, .inl (fun _ => 0))), (q3, .inl (cI, 48, .inl (fun _ => 0))), (q4, .inl (cI, 48, .inl (fun _ => 0))), (q5, .inl (cI, 48, .inl (fun _ => 0))), (q6, .inl (cI, 48, .inl (fun _ => 0)))] H := hP
  have hD : va_D A [(h0, .inr (0, [.int 0, .ref q1, .ref q2, .ref q3, .ref q4, .ref q5, .null, .null, .null, .null, .null, .null, .null, .null, .null, .null])), (q1, .inl (cZ, 48, .inl (fun _ => 0))), (q2, .inl (cI, 48, .inl (fun _ => 0))), (q3, .inl (cI, 48, .inl (fun _ => 0))), (q4, .inl (cI, 48, .inl (fun _ => 0))), (q5, .inl (cI, 48, .inl (fun _ => 0))), (q6, .inl (cI, 48, .inl (fun _ => 0)))] := hD
  refine va_putF (D := D) (ci := 0) (v := .ref q6) (ty := .array .int) (C := RX0) (T := TX0) (N := 16) hx hb hts in_X0 tyX0 tyX0_ok nmX0 S0.2.2.2.1 hK hP hD hS 0 rfl rfl 6 (by decide) (hts _ q33) (fun _ h9 => h9) rfl hin rfl (by decide +kernel) rfl rfl (Nat.le_of_ble_eq_true rfl) dX0_init_49 (fun H locs hP hD hS => ?_)
  have hP : va_P D tr_cl [(h0, .inr (0, [.int 0, .ref q1, .ref q2, .ref q3, .ref q4, .ref q5, .ref q6, .null, .null, .null, .null, .null, .null, .null, .null, .null])), (q1, .inl (cZ, 48, .inl (fun _ => 0))), (q2, .inl (cI, 48, .inl (fun _ => 0))), (q3, .inl (cI, 48, .inl (fun _ => 0))), (q4, .inl (cI, 48, .inl (fun _ => 0))), (q5, .inl (cI, 48, .inl (fun _ => 0))), (q6, .inl (cI, 48, .inl (fun _ => 0)))] H := hP
  have hD : va_D A [(h0, .inr (0, [.int 0, .ref q1, .ref q2, .ref q3, .ref q4, .ref q5, .ref q6, .null, .null, .null, .null, .null, .null, .null, .null, .null])), (q1, .inl (cZ, 48, .inl (fun _ => 0))), (q2, .inl (cI, 48, .inl (fun _ => 0))), (q3, .inl (cI, 48, .inl (fun _ => 0))), (q4, .inl (cI, 48, .inl (fun _ => 0))), (q5, .inl (cI, 48, .inl (fun _ => 0))), (q6, .inl (cI, 48, .inl (fun _ => 0)))] := hD
  refine lv_aload_n hx hb dX0_init_52 rfl (lv_at hl 0 rfl) ?_
  refine lv_bipush (v := (nI 48)) hx hb dX0_init_53 (by decide +kernel) ?_
  refine tr_newI hx hb (hts _ q77) hK hP hD hS hA (by decide) (Nat.le_of_ble_eq_true rfl) (Nat.le_of_ble_eq_true rfl) dX0_init_55 (fun q7 H hP hD hS => ?_)
  have hP : va_P D tr_cl [(h0, .inr (0, [.int 0, .ref q1, .ref q2, .ref q3, .ref q4, .ref q5, .ref q6, .null, .null, .null, .null, .null, .null, .null, .null, .null])), (q1, .inl (cZ, 48, .inl (fun _ => 0))), (q2, .inl (cI, 48, .inl (fun _ => 0))), (q3, .inl (cI, 48, .inl (fun _ => 0))), (q4, .inl (cI, 48, .inl (fun _ => 0))), (q5, .inl (cI, 48, .inl (fun _ => 0))), (q6, .inl (cI, 48, .inl (fun _ => 0))), (q7, .inl (cI, 48, .inl (fun _ => 0)))] H := hP
  have hD : va_D A [(h0, .inr (0, [.int 0, .ref q1, .ref q2, .ref q3, .ref q4, .ref q5, .ref q6, .null, .null, .null, .null, .null, .null, .null, .null, .null])), (q1, .inl (cZ, 48, .inl (fun _ => 0))), (q2, .inl (cI, 48, .inl (fun _ => 0))), (q3, .inl (cI, 48, .inl (fun _ => 0))), (q4, .inl (cI, 48, .inl (fun _ => 0))), (q5, .inl (cI, 48, .inl (fun _ => 0))), (q6, .inl (cI, 48, .inl (fun _ => 0))), (q7, .inl (cI, 48, .inl (fun _ => 0)))] := hD
  refine va_putF (D := D) (ci := 0) (v := .ref q7) (ty := .array .int) (C := RX0) (T := TX0) (N := 16) hx hb hts in_X0 tyX0 tyX0_ok nmX0 S0.2.2.2.1 hK hP hD hS 0 rfl rfl 7 (by decide) (hts _ q34) (fun _ h9 => h9) rfl hin rfl (by decide +kernel) rfl rfl (Nat.le_of_ble_eq_true rfl) dX0_init_57 (fun H locs hP hD hS => ?_)
  have hP : va_P D tr_cl [(h0, .inr (0, [.int 0, .ref q1, .ref q2, .ref q3, .ref q4, .ref q5, .ref q6, .ref q7, .null, .null, .null, .null, .null, .null, .null, .null])), (q1, .inl (cZ, 48, .inl (fun _ => 0))), (q2, .inl (cI, 48, .inl (fun _ => 0))), (q3, .inl (cI, 48, .inl (fun _ => 0))), (q4, .inl (cI, 48, .inl (fun _ => 0))), (q5, .inl (cI, 48, .inl (fun _ => 0))), (q6, .inl (cI, 48, .inl (fun _ => 0))), (q7, .inl (cI, 48, .inl (fun _ => 0)))] H := hP
  have hD : va_D A [(h0, .inr (0, [.int 0, .ref q1, .ref q2, .ref q3, .ref q4, .ref q5, .ref q6, .ref q7, .null, .null, .null, .null, .null, .null, .null, .null])), (q1, .inl (cZ, 48, .inl (fun _ => 0))), (q2, .inl (cI, 48, .inl (fun _ => 0))), (q3, .inl (cI, 48, .inl (fun _ => 0))), (q4, .inl (cI, 48, .inl (fun _ => 0))), (q5, .inl (cI, 48, .inl (fun _ => 0))), (q6, .inl (cI, 48, .inl (fun _ => 0))), (q7, .inl (cI, 48, .inl (fun _ => 0)))] := hD
  refine lv_aload_n hx hb dX0_init_60 rfl (lv_at hl 0 rfl) ?_
  refine lv_iconst (v := (nI 3)) hx hb dX0_init_61 (by decide +kernel) ?_
  refine tr_newI hx hb (hts _ q77) hK hP hD hS hA (by decide) (Nat.le_of_ble_eq_true rfl) (Nat.le_of_ble_eq_true rfl) dX0_init_62 (fun q8 H hP hD hS => ?_)
  have hP : va_P D tr_cl [(h0, .inr (0, [.int 0, .ref q1, .ref q2, .ref q3, .ref q4, .ref q5, .ref q6, .ref q7, .null, .null, .null, .null, .null, .null, .null, .null])), (q1, .inl (cZ, 48, .inl (fun _ => 0))), (q2, .inl (cI, 48, .inl (fun _ => 0))), (q3, .inl (cI, 48, .inl (fun _ => 0))), (q4, .inl (cI, 48, .inl (fun _ => 0))), (q5, .inl (cI, 48, .inl (fun _ => 0))), (q6, .inl (cI, 48, .inl (fun _ => 0))), (q7, .inl (cI, 48, .inl (fun _ => 0))), (q8, .inl (cI, 3, .inl (fun _ => 0)))] H := hP
  have hD : va_D A [(h0, .inr (0, [.int 0, .ref q1, .ref q2, .ref q3, .ref q4, .ref q5, .ref q6, .ref q7, .null, .null, .null, .null, .null, .null, .null, .null])), (q1, .inl (cZ, 48, .inl (fun _ => 0))), (q2, .inl (cI, 48, .inl (fun _ => 0))), (q3, .inl (cI, 48, .inl (fun _ => 0))), (q4, .inl (cI, 48, .inl (fun _ => 0))), (q5, .inl (cI, 48, .inl (fun _ => 0))), (q6, .inl (cI, 48, .inl (fun _ => 0))), (q7, .inl (cI, 48, .inl (fun _ => 0))), (q8, .inl (cI, 3, .inl (fun _ => 0)))] := hD
  refine va_putF (D := D) (ci := 0) (v := .ref q8) (ty := .array .int) (C := RX0) (T := TX0) (N := 16) hx hb hts in_X0 tyX0 tyX0_ok nmX0 S0.2.2.2.1 hK hP hD hS 0 rfl rfl 8 (by decide) (hts _ q35) (fun _ h9 => h9) rfl hin rfl (by decide +kernel) rfl rfl (Nat.le_of_ble_eq_true rfl) dX0_init_64 (fun H locs hP hD hS => ?_)
  have hP : va_P D tr_cl [(h0, .inr (0, [.int 0, .ref q1, .ref q2, .ref q3, .ref q4, .ref q5, .ref q6, .ref q7, .ref q8, .null, .null, .null, .null, .null, .null, .null])), (q1, .inl (cZ, 48, .inl (fun _ => 0))), (q2, .inl (cI, 48, .inl (fun _ => 0))), (q3, .inl (cI, 48, .inl (fun _ => 0))), (q4, .inl (cI, 48, .inl (fun _ => 0))), (q5, .inl (cI, 48, .inl (fun _ => 0))), (q6, .inl (cI, 48, .inl (fun _ => 0))), (q7, .inl (cI, 48, .inl (fun _ => 0))), (q8, .inl (cI, 3, .inl (fun _ => 0)))] H := hP
  have hD : va_D A [(h0, .inr (0, [.int 0, .ref q1, .ref q2, .ref q3, .ref q4, .ref q5, .ref q6, .ref q7, .ref q8, .null, .null, .null, .null, .null, .null, .null])), (q1, .inl (cZ, 48, .inl (fun _ => 0))), (q2, .inl (cI, 48, .inl (fun _ => 0))), (q3, .inl (cI, 48, .inl (fun _ => 0))), (q4, .inl (cI, 48, .inl (fun _ => 0))), (q5, .inl (cI, 48, .inl (fun _ => 0))), (q6, .inl (cI, 48, .inl (fun _ => 0))), (q7, .inl (cI, 48, .inl (fun _ => 0))), (q8, .inl (cI, 3, .inl (fun _ => 0)))] := hD
  refine lv_aload_n hx hb dX0_init_67 rfl (lv_at hl 0 rfl) ?_
  refine lv_sipush (v := (nI 147)) hx hb dX0_init_68 (by decide +kernel) ?_
  refine tr_newI hx hb (hts _ q77) hK hP hD hS hA (by decide) (Nat.le_of_ble_eq_true rfl) (Nat.le_of_ble_eq_true rfl) dX0_init_71 (fun q9 H hP hD hS => ?_)
  have hP : va_P D tr_cl [(h0, .inr (0, [.int 0, .ref q1, .ref q2, .ref q3, .ref q4, .ref q5, .ref q6, .ref q7, .ref q8, .null, .null, .null, .null, .null, .null, .null])), (q1, .inl (cZ, 48, .inl (fun _ => 0))), (q2, .inl (cI, 48, .inl (fun _ => 0))), (q3, .inl (cI, 48, .inl (fun _ => 0))), (q4, .inl (cI, 48, .inl (fun _ => 0))), (q5, .inl (cI, 48, .inl (fun _ => 0))), (q6, .inl (cI, 48, .inl (fun _ => 0))), (q7, .inl (cI, 48, .inl (fun _ => 0))), (q8, .inl (cI, 3, .inl (fun _ => 0))), (q9, .inl (cI, 147, .inl (fun _ => 0)))] H := hP
  have hD : va_D A [(h0, .inr (0, [.int 0, .ref q1, .ref q2, .ref q3, .ref q4, .ref q5, .ref q6, .ref q7, .ref q8, .null, .null, .null, .null, .null, .null, .null])), (q1, .inl (cZ, 48, .inl (fun _ => 0))), (q2, .inl (cI, 48, .inl (fun _ => 0))), (q3, .inl (cI, 48, .inl (fun _ => 0))), (q4, .inl (cI, 48, .inl (fun _ => 0))), (q5, .inl (cI, 48, .inl (fun _ => 0))), (q6, .inl (cI, 48, .inl (fun _ => 0))), (q7, .inl (cI, 48, .inl (fun _ => 0))), (q8, .inl (cI, 3, .inl (fun _ => 0))), (q9, .inl (cI, 147, .inl (fun _ => 0)))] := hD
  refine va_putF (D := D) (ci := 0) (v := .ref q9) (ty := .array .int) (C := RX0) (T := TX0) (N := 16) hx hb hts in_X0 tyX0 tyX0_ok nmX0 S0.2.2.2.1 hK hP hD hS 0 rfl rfl 9 (by decide) (hts _ q36) (fun _ h9 => h9) rfl hin rfl (by decide +kernel) rfl rfl (Nat.le_of_ble_eq_true rfl) dX0_init_73 (fun H locs hP hD hS => ?_)
  have hP : va_P D tr_cl [(h0, .inr (0, [.int 0, .ref q1, .ref q2, .ref q3, .ref q4, .ref q5, .ref q6, .ref q7, .ref q8, .ref q9, .null, .null, .null, .null, .null, .null])), (q1, .inl (cZ, 48, .inl (fun _ => 0))), (q2, .inl (cI, 48, .inl (fun _ => 0))), (q3, .inl (cI, 48, .inl (fun _ => 0))), (q4, .inl (cI, 48, .inl (fun _ => 0))), (q5, .inl (cI, 48, .inl (fun _ => 0))), (q6, .inl (cI, 48, .inl (fun _ => 0))), (q7, .inl (cI, 48, .inl (fun _ => 0))), (q8, .inl (cI, 3, .inl (fun _ => 0))), (q9, .inl (cI, 147, .inl (fun _ => 0)))] H := hP
  have hD : va_D A [(h0, .inr (0, [.int 0, .ref q1, .ref q2, .ref q3, .ref q4, .ref q5, .ref q6, .ref q7, .ref q8, .ref q9, .null, .null, .null, .null, .null, .null])), (q1, .inl (cZ, 48, .inl (fun _ => 0))), (q2, .inl (cI, 48, .inl (fun _ => 0))), (q3, .inl (cI, 48, .inl (fun _ => 0))), (q4, .inl (cI, 48, .inl (fun _ => 0))), (q5, .inl (cI, 48, .inl (fun _ => 0))), (q6, .inl (cI, 48, .inl (fun _ => 0))), (q7, .inl (cI, 48, .inl (fun _ => 0))), (q8, .inl (cI, 3, .inl (fun _ => 0))), (q9, .inl (cI, 147, .inl (fun _ => 0)))] := hD
  refine lv_aload_n hx hb dX0_init_76 rfl (lv_at hl 0 rfl) ?_
  refine lv_bipush (v := (nI 9)) hx hb dX0_init_77 (by decide +kernel) ?_
  refine tr_newI hx hb (hts _ q77) hK hP hD hS hA (by decide) (Nat.le_of_ble_eq_true rfl) (Nat.le_of_ble_eq_true rfl) dX0_init_79 (fun q10 H hP hD hS => ?_)
  have hP : va_P D tr_cl [(h0, .inr (0, [.int 0, .ref q1, .ref q2, .ref q3, .ref q4, .ref q5, .ref q6, .ref q7, .ref q8, .ref q9, .null, .null, .null, .null, .null, .null])), (q1, .inl (cZ, 48, .inl (fun _ => 0))), (q2, .inl (cI, 48, .inl (fun _ => 0))), (q3, .inl (cI, 48, .inl (fun _ => 0))), (q4, .inl (cI, 48, .inl (fun _ => 0))), (q5, .inl (cI, 48, .inl (fun _ => 0))), (q6, .inl (cI, 48, .inl (fun _ => 0))), (q7, .inl (cI, 48, .inl (fun _ => 0))), (q8, .inl (cI, 3, .inl (fun _ => 0))), (q9, .inl (cI, 147, .inl (fun _ => 0))), (q10, .inl (cI, 9, .inl (fun _ => 0)))] H := hP
  have hD : va_D A [(h0, .inr (0, [.int 0, .ref q1, .ref q2, .ref q3, .ref q4, .ref q5, .ref q6, .ref q7, .ref q8, .ref q9, .null, .null, .null, .null, .null, .null])), (q1, .inl (cZ, 48, .inl (fun _ => 0))), (q2, .inl (cI, 48, .inl (fun _ => 0))), (q3, .inl (cI, 48, .inl (fun _ => 0))), (q4, .inl (cI, 48, .inl (fun _ => 0))), (q5, .inl (cI, 48, .inl (fun _ => 0))), (q6, .inl (cI, 48, .inl (fun _ => 0))), (q7, .inl (cI, 48, .inl (fun _ => 0))), (q8, .inl (cI, 3, .inl (fun _ => 0))), (q9, .inl (cI, 147, .inl (fun _ => 0))), (q10, .inl (cI, 9, .inl (fun _ => 0)))] := hD
  refine va_putF (D := D) (ci := 0) (v := .ref q10) (ty := .array .int) (C := RX0) (T := TX0) (N := 16) hx hb hts in_X0 tyX0 tyX0_ok nmX0 S0.2.2.2.1 hK hP hD hS 0 rfl rfl 10 (by decide) (hts _ q37) (fun _ h9 => h9) rfl hin rfl (by decide +kernel) rfl rfl (Nat.le_of_ble_eq_true rfl) dX0_init_81 (fun H locs hP hD hS => ?_)
  have hP : va_P D tr_cl [(h0, .inr (0, [.int 0, .ref q1, .ref q2, .ref q3, .ref q4, .ref q5, .ref q6, .ref q7, .ref q8, .ref q9, .ref q10, .null, .null, .null, .null, .null])), (q1, .inl (cZ, 48, .inl (fun _ => 0))), (q2, .inl (cI, 48, .inl (fun _ => 0))), (q3, .inl (cI, 48, .inl (fun _ => 0))), (q4, .inl (cI, 48, .inl (fun _ => 0))), (q5, .inl (cI, 48, .inl (fun _ => 0))), (q6, .inl (cI, 48, .inl (fun _ => 0))), (q7, .inl (cI, 48, .inl (fun _ => 0))), (q8, .inl (cI, 3, .inl (fun _ => 0))), (q9, .inl (cI, 147, .inl (fun _ => 0))), (q10, .inl (cI, 9, .inl (fun _ => 0)))] H := hP
  have hD : va_D A [(h0, .inr (0, [.int 0, .ref q1, .ref q2, .ref q3, .ref q4, .ref q5, .ref q6, .ref q7, .ref q8, .ref q9, .ref q10, .null, .null, .null, .null, .null])), (q1, .inl (cZ, 48, .inl (fun _ => 0))), (q2, .inl (cI, 48, .inl (fun _ => 0))), (q3, .inl (cI, 48, .inl (fun _ => 0))), (q4, .inl (cI, 48, .inl (fun _ => 0))), (q5, .inl (cI, 48, .inl (fun _ => 0))), (q6, .inl (cI, 48, .inl (fun _ => 0))), (q7, .inl (cI, 48, .inl (fun _ => 0))), (q8, .inl (cI, 3, .inl (fun _ => 0))), (q9, .inl (cI, 147, .inl (fun _ => 0))), (q10, .inl (cI, 9, .inl (fun _ => 0)))] := hD
  refine lv_aload_n hx hb dX0_init_84 rfl (lv_at hl 0 rfl) ?_
  refine lv_iconst (v := (nI 3)) hx hb dX0_init_85 (by decide +kernel) ?_
  refine tr_newI hx hb (hts _ q77) hK hP hD hS hA (by decide) (Nat.le_of_ble_eq_true rfl) (Nat.le_of_ble_eq_true rfl) dX0_init_86 (fun q11 H hP hD hS => ?_)
  have hP : va_P D tr_cl [(h0, .inr (0, [.int 0, .ref q1, .ref q2, .ref q3, .ref q4, .ref q5, .ref q6, .ref q7, .ref q8, .ref q9, .ref q10, .null, .null, .null, .null, .null])), (q1, .inl (cZ, 48, .inl (fun _ => 0))), (q2, .inl (cI, 48, .inl (fun _ => 0))), (q3, .inl (cI, 48, .inl (fun _ => 0))), (q4, .inl (cI, 48, .inl (fun _ => 0))), (q5, .inl (cI, 48, .inl (fun _ => 0))), (q6, .inl (cI, 48, .inl (fun _ => 0))), (q7, .inl (cI, 48, .inl (fun _ => 0))), (q8, .inl (cI, 3, .inl (fun _ => 0))), (q9, .inl (cI, 147, .inl (fun _ => 0))), (q10, .inl (cI, 9, .inl (fun _ => 0))), (q11, .inl (cI, 3, .inl (fun _ => 0)))] H := hP
  have hD : va_D A [(h0, .inr (0, [.int 0, .ref q1, .ref q2, .ref q3, .ref q4, .ref q5, .ref q6, .ref q7, .ref q8, .ref q9, .ref q10, .null, .null, .null, .null, .null])), (q1, .inl (cZ, 48, .inl (fun _ => 0))), (q2, .inl (cI, 48, .inl (fun _ => 0))), (q3, .inl (cI, 48, .inl (fun _ => 0))), (q4, .inl (cI, 48, .inl (fun _ => 0))), (q5, .inl (cI, 48, .inl (fun _ => 0))), (q6, .inl (cI, 48, .inl (fun _ => 0))), (q7, .inl (cI, 48, .inl (fun _ => 0))), (q8, .inl (cI, 3, .inl (fun _ => 0))), (q9, .inl (cI, 147, .inl (fun _ => 0))), (q10, .inl (cI, 9, .inl (fun _ => 0))), (q11, .inl (cI, 3, .inl (fun _ => 0)))] := hD
  refine va_putF (D := D) (ci := 0) (v := .ref q11) (ty := .array .int) (C := RX0) (T := TX0) (N := 16) hx hb hts in_X0 tyX0 tyX0_ok nmX0 S0.2.2.2.1 hK hP hD hS 0 rfl rfl 11 (by decide) (hts _ q38) (fun _ h9 => h9) rfl hin rfl (by decide +kernel) rfl rfl (Nat.le_of_ble_eq_true rfl) dX0_init_88 (fun H locs hP hD hS => ?_)
  have hP : va_P D tr_cl [(h0, .inr (0, [.int 0, .ref q1, .ref q2, .ref q3, .ref q4, .ref q5, .ref q6, .ref q7, .ref q8, .ref q9, .ref q10, .ref q11, .null, .null, .null, .null])), (q1, .inl (cZ, 48, .inl (fun _ => 0))), (q2, .inl (cI, 48, .inl (fun _ => 0))), (q3, .inl (cI, 48, .inl (fun _ => 0))), (q4, .inl (cI, 48, .inl (fun _ => 0))), (q5, .inl (cI, 48, .inl (fun _ => 0))), (q6, .inl (cI, 48, .inl (fun _ => 0))), (q7, .inl (cI, 48, .inl (fun _ => 0))), (q8, .inl (cI, 3, .inl (fun _ => 0))), (q9, .inl (cI, 147, .inl (fun _ => 0))), (q10, .inl (cI, 9, .inl (fun _ => 0))), (q11, .inl (cI, 3, .inl (fun _ => 0)))] H := hP
  have hD : va_D A [(h0, .inr (0, [.int 0, .ref q1, .ref q2, .ref q3, .ref q4, .ref q5, .ref q6, .ref q7, .ref q8, .ref q9, .ref q10, .ref q11, .null, .null, .null, .null])), (q1, .inl (cZ, 48, .inl (fun _ => 0))), (q2, .inl (cI, 48, .inl (fun _ => 0))), (q3, .inl (cI, 48, .inl (fun _ => 0))), (q4, .inl (cI, 48, .inl (fun _ => 0))), (q5, .inl (cI, 48, .inl (fun _ => 0))), (q6, .inl (cI, 48, .inl (fun _ => 0))), (q7, .inl (cI, 48, .inl (fun _ => 0))), (q8, .inl (cI, 3, .inl (fun _ => 0))), (q9, .inl (cI, 147, .inl (fun _ => 0))), (q10, .inl (cI, 9, .inl (fun _ => 0))), (q11, .inl (cI, 3, .inl (fun _ => 0)))] := hD
  refine lv_aload_n hx hb dX0_init_91 rfl (lv_at hl 0 rfl) ?_
  refine lv_sipush (v := (nI 147)) hx hb dX0_init_92 (by decide +kernel) ?_
  refine tr_newI hx hb (hts _ q77) hK hP hD hS hA (by decide) (Nat.le_of_ble_eq_true rfl) (Nat.le_of_ble_eq_true rfl) dX0_init_95 (fun q12 H hP hD hS => ?_)
  have hP : va_P D tr_cl [(h0, .inr (0, [.int 0, .ref q1, .ref q2, .ref q3, .ref q4, .ref q5, .ref q6, .ref q7, .ref q8, .ref q9, .ref q10, .ref q11, .null, .null, .null, .null])), (q1, .inl (cZ, 48, .inl (fun _ => 0))), (q2, .inl (cI, 48, .inl (fun _ => 0))), (q3, .inl (cI, 48, .inl (fun _ => 0))), (q4, .inl (cI, 48, .inl (fun _ => 0))), (q5, .inl (cI, 48, .inl (fun _ => 0))), (q6, .inl (cI, 48, .inl (fun _ => 0))), (q7, .inl (cI, 48, .inl (fun _ => 0))), (q8, .inl (cI, 3, .inl (fun _ => 0))), (q9, .inl (cI, 147, .inl (fun _ => 0))), (q10, .inl (cI, 9, .inl (fun _ => 0))), (q11, .inl (cI, 3, .inl (fun _ => 0))), (q12, .inl (cI, 147, .inl (fun _ => 0)))] H := hP
  have hD : va_D A [(h0, .inr (0, [.int 0, .ref q1, .ref q2, .ref q3, .ref q4, .ref q5, .ref q6, .ref q7, .ref q8, .ref q9, .ref q10, .ref q11, .null, .null, .null, .null])), (q1, .inl (cZ, 48, .inl (fun _ => 0))), (q2, .inl (cI, 48, .inl (fun _ => 0))), (q3, .inl (cI, 48, .inl (fun _ => 0))), (q4, .inl (cI, 48, .inl (fun _ => 0))), (q5, .inl (cI, 48, .inl (fun _ => 0))), (q6, .inl (cI, 48, .inl (fun _ => 0))), (q7, .inl (cI, 48, .inl (fun _ => 0))), (q8, .inl (cI, 3, .inl (fun _ => 0))), (q9, .inl (cI, 147, .inl (fun _ => 0))), (q10, .inl (cI, 9, .inl (fun _ => 0))), (q11, .inl (cI, 3, .inl (fun _ => 0))), (q12, .inl (cI, 147, .inl (fun _ => 0)))] := hD
  refine va_putF (D := D) (ci := 0) (v := .ref q12) (ty := .array .int) (C := RX0) (T := TX0) (N := 16) hx hb hts in_X0 tyX0 tyX0_ok nmX0 S0.2.2.2.1 hK hP hD hS 0 rfl rfl 12 (by decide) (hts _ q39) (fun _ h9 => h9) rfl hin rfl (by decide +kernel) rfl rfl (Nat.le_of_ble_eq_true rfl) dX0_init_97 (fun H locs hP hD hS => ?_)
  have hP : va_P D tr_cl [(h0, .inr (0, [.int 0, .ref q1, .ref q2, .ref q3, .ref q4, .ref q5, .ref q6, .ref q7, .ref q8, .ref q9, .ref q10, .ref q11, .ref q12, .null, .null, .null])), (q1, .inl (cZ, 48, .inl (fun _ => 0))), (q2, .inl (cI, 48, .inl (fun _ => 0))), (q3, .inl (cI, 48, .inl (fun _ => 0))), (q4, .inl (cI, 48, .inl (fun _ => 0))), (q5, .inl (cI, 48, .inl (fun _ => 0))), (q6, .inl (cI, 48, .inl (fun _ => 0))), (q7, .inl (cI, 48, .inl (fun _ => 0))), (q8, .inl (cI, 3, .inl (fun _ => 0))), (q9, .inl (cI, 147, .inl (fun _ => 0))), (q10, .inl (cI, 9, .inl (fun _ => 0))), (q11, .inl (cI, 3, .inl (fun _ => 0))), (q12, .inl (cI, 147, .inl (fun _ => 0)))] H := hP
  have hD : va_D A [(h0, .inr (0, [.int 0, .ref q1, .ref q2, .ref q3, .ref q4, .ref q5, .ref q6, .ref q7, .ref q8, .ref q9, .ref q10, .ref q11, .ref q12, .null, .null, .null])), (q1, .inl (cZ, 48, .inl (fun _ => 0))), (q2, .inl (cI, 48, .inl (fun _ => 0))), (q3, .inl (cI, 48, .inl (fun _ => 0))), (q4, .inl (cI, 48, .inl (fun _ => 0))), (q5, .inl (cI, 48, .inl (fun _ => 0))), (q6, .inl (cI, 48, .inl (fun _ => 0))), (q7, .inl (cI, 48, .inl (fun _ => 0))), (q8, .inl (cI, 3, .inl (fun _ => 0))), (q9, .inl (cI, 147, .inl (fun _ => 0))), (q10, .inl (cI, 9, .inl (fun _ => 0))), (q11, .inl (cI, 3, .inl (fun _ => 0))), (q12, .inl (cI, 147, .inl (fun _ => 0)))] := hD
  refine lv_aload_n hx hb dX0_init_100 rfl (lv_at hl 0 rfl) ?_
  refine lv_sipush (v := (nI 147)) hx hb dX0_init_101 (by decide +kernel) ?_
  refine tr_newZ hx hb (hts _ q76) hK hP hD hS hA (by decide) (Nat.le_of_ble_eq_true rfl) (Nat.le_of_ble_eq_true rfl) dX0_init_104 (fun q13 H hP hD hS => ?_)
  have hP : va_P D tr_cl [(h0, .inr (0, [.int 0, .ref q1, .ref q2, .ref q3, .ref q4, .ref q5, .ref q6, .ref q7, .ref q8, .ref q9, .ref q10, .ref q11, .ref q12, .null, .null, .null])), (q1, .inl (cZ, 48, .inl (fun _ => 0))), (q2, .inl (cI, 48, .inl (fun _ => 0))), (q3, .inl (cI, 48, .inl (fun _ => 0))), (q4, .inl (cI, 48, .inl (fun _ => 0))), (q5, .inl (cI, 48, .inl (fun _ => 0))), (q6, .inl (cI, 48, .inl (fun _ => 0))), (q7, .inl (cI, 48, .inl (fun _ => 0))), (q8, .inl (cI, 3, .inl (fun _ => 0))), (q9, .inl (cI, 147, .inl (fun _ => 0))), (q10, .inl (cI, 9, .inl (fun _ => 0))), (q11, .inl (cI, 3, .inl (fun _ => 0))), (q12, .inl (cI, 147, .inl (fun _ => 0))), (q13, .inl (cZ, 147, .inl (fun _ => 0)))] H := hP
  have hD : va_D A [(h0, .inr (0, [.int 0, .ref q1, .ref q2, .ref q3, .ref q4, .ref q5, .ref q6, .ref q7, .ref q8, .ref q9, .ref q10, .ref q11, .ref q12, .null, .null, .null])), (q1, .inl (cZ, 48, .inl (fun _ => 0))), (q2, .inl (cI, 48, .inl (fun _ => 0))), (q3, .inl (cI, 48, .inl (fun _ => 0))), (q4, .inl (cI, 48, .inl (fun _ => 0))), (q5, .inl (cI, 48, .inl (fun _ => 0))), (q6, .inl (cI, 48, .inl (fun _ => 0))), (q7, .inl (cI, 48, .inl (fun _ => 0))), (q8, .inl (cI, 3, .inl (fun _ => 0))), (q9, .inl (cI, 147, .inl (fun _ => 0))), (q10, .inl (cI, 9, .inl (fun _ => 0))), (q11, .inl (cI, 3, .inl (fun _ => 0))), (q12, .inl (cI, 147, .inl (fun _ => 0))), (q13, .inl (cZ, 147, .inl (fun _ => 0)))] := hD
  refine va_putF (D := D) (ci := 0) (v := .ref q13) (ty := .array .boolean) (C := RX0) (T := TX0) (N := 16) hx hb hts in_X0 tyX0 tyX0_ok nmX0 S0.2.2.2.1 hK hP hD hS 0 rfl rfl 13 (by decide) (hts _ q40) (fun _ h9 => h9) rfl hin rfl (by decide +kernel) rfl rfl (Nat.le_of_ble_eq_true rfl) dX0_init_106 (fun H locs hP hD hS => ?_)
  have hP : va_P D tr_cl [(h0, .inr (0, [.int 0, .ref q1, .ref q2, .ref q3, .ref q4, .ref q5, .ref q6, .ref q7, .ref q8, .ref q9, .ref q10, .ref q11, .ref q12, .ref q13, .null, .null])), (q1, .inl (cZ, 48, .inl (fun _ => 0))), (q2, .inl (cI, 48, .inl (fun _ => 0))), (q3, .inl (cI, 48, .inl (fun _ => 0))), (q4, .inl (cI, 48, .inl (fun _ => 0))), (q5, .inl (cI, 48, .inl (fun _ => 0))), (q6, .inl (cI, 48, .inl (fun _ => 0))), (q7, .inl (cI, 48, .inl (fun _ => 0))), (q8, .inl (cI, 3, .inl (fun _ => 0))), (q9, .inl (cI, 147, .inl (fun _ => 0))), (q10, .inl (cI, 9, .inl (fun _ => 0))), (q11, .inl (cI, 3, .inl (fun _ => 0))), (q12, .inl (cI, 147, .inl (fun _ => 0))), (q13, .inl (cZ, 147, .inl (fun _ => 0)))] H := hP
  have hD : va_D A [(h0, .inr (0, [.int 0, .ref q1, .ref q2, .ref q3, .ref q4, .ref q5, .ref q6, .ref q7, .ref q8, .ref q9, .ref q10, .ref q11, .ref q12, .ref q13, .null, .null])), (q1, .inl (cZ, 48, .inl (fun _ => 0))), (q2, .inl (cI, 48, .inl (fun _ => 0))), (q3, .inl (cI, 48, .inl (fun _ => 0))), (q4, .inl (cI, 48, .inl (fun _ => 0))), (q5, .inl (cI, 48, .inl (fun _ => 0))), (q6, .inl (cI, 48, .inl (fun _ => 0))), (q7, .inl (cI, 48, .inl (fun _ => 0))), (q8, .inl (cI, 3, .inl (fun _ => 0))), (q9, .inl (cI, 147, .inl (fun _ => 0))), (q10, .inl (cI, 9, .inl (fun _ => 0))), (q11, .inl (cI, 3, .inl (fun _ => 0))), (q12, .inl (cI, 147, .inl (fun _ => 0))), (q13, .inl (cZ, 147, .inl (fun _ => 0)))] := hD
  refine lv_aload_n hx hb dX0_init_109 rfl (lv_at hl 0 rfl) ?_
  refine lv_iconst (v := (nI 3)) hx hb dX0_init_110 (by decide +kernel) ?_
  refine tr_newI hx hb (hts _ q77) hK hP hD hS hA (by decide) (Nat.le_of_ble_eq_true rfl) (Nat.le_of_ble_eq_true rfl) dX0_init_111 (fun q14 H hP hD hS => ?_)
  have hP : va_P D tr_cl [(h0, .inr (0, [.int 0, .ref q1, .ref q2, .ref q3, .ref q4, .ref q5, .ref q6, .ref q7, .ref q8, .ref q9, .ref q10, .ref q11, .ref q12, .ref q13, .null, .null])), (q1, .inl (cZ, 48, .inl (fun _ => 0))), (q2, .inl (cI, 48, .inl (fun _ => 0))), (q3, .inl (cI, 48, .inl (fun _ => 0))), (q4, .inl (cI, 48, .inl (fun _ => 0))), (q5, .inl (cI, 48, .inl (fun _ => 0))), (q6, .inl (cI, 48, .inl (fun _ => 0))), (q7, .inl (cI, 48, .inl (fun _ => 0))), (q8, .inl (cI, 3, .inl (fun _ => 0))), (q9, .inl (cI, 147, .inl (fun _ => 0))), (q10, .inl (cI, 9, .inl (fun _ => 0))), (q11, .inl (cI, 3, .inl (fun _ => 0))), (q12, .inl (cI, 147, .inl (fun _ => 0))), (q13, .inl (cZ, 147, .inl (fun _ => 0))), (q14, .inl (cI, 3, .inl (fun _ => 0)))] H := hP
  have hD : va_D A [(h0, .inr (0, [.int 0, .ref q1, .ref q2, .ref q3, .ref q4, .ref q5, .ref q6, .ref q7, .ref q8, .ref q9, .ref q10, .ref q11, .ref q12, .ref q13, .null, .null])), (q1, .inl (cZ, 48, .inl (fun _ => 0))), (q2, .inl (cI, 48, .inl (fun _ => 0))), (q3, .inl (cI, 48, .inl (fun _ => 0))), (q4, .inl (cI, 48, .inl (fun _ => 0))), (q5, .inl (cI, 48, .inl (fun _ => 0))), (q6, .inl (cI, 48, .inl (fun _ => 0))), (q7, .inl (cI, 48, .inl (fun _ => 0))), (q8, .inl (cI, 3, .inl (fun _ => 0))), (q9, .inl (cI, 147, .inl (fun _ => 0))), (q10, .inl (cI, 9, .inl (fun _ => 0))), (q11, .inl (cI, 3, .inl (fun _ => 0))), (q12, .inl (cI, 147, .inl (fun _ => 0))), (q13, .inl (cZ, 147, .inl (fun _ => 0))), (q14, .inl (cI, 3, .inl (fun _ => 0)))] := hD
  refine va_putF (D := D) (ci := 0) (v := .ref q14) (ty := .array .int) (C := RX0) (T := TX0) (N := 16) hx hb hts in_X0 tyX0 tyX0_ok nmX0 S0.2.2.2.1 hK hP hD hS 0 rfl rfl 14 (by decide) (hts _ q41) (fun _ h9 => h9) rfl hin rfl (by decide +kernel) rfl rfl (Nat.le_of_ble_eq_true rfl) dX0_init_113 (fun H locs hP hD hS => ?_)
  have hP : va_P D tr_cl [(h0, .inr (0, [.int 0, .ref q1, .ref q2, .ref q3, .ref q4, .ref q5, .ref q6, .ref q7, .ref q8, .ref q9, .ref q10, .ref q11, .ref q12, .ref q13, .ref q14, .null])), (q1, .inl (cZ, 48, .inl (fun _ => 0))), (q2, .inl (cI, 48, .inl (fun _ => 0))), (q3, .inl (cI, 48, .inl (fun _ => 0))), (q4, .inl (cI, 48, .inl (fun _ => 0))), (q5, .inl (cI, 48, .inl (fun _ => 0))), (q6, .inl (cI, 48, .inl (fun _ => 0))), (q7, .inl (cI, 48, .inl (fun _ => 0))), (q8, .inl (cI, 3, .inl (fun _ => 0))), (q9, .inl (cI, 147, .inl (fun _ => 0))), (q10, .inl (cI, 9, .inl (fun _ => 0))), (q11, .inl (cI, 3, .inl (fun _ => 0))), (q12, .inl (cI, 147, .inl (fun _ => 0))), (q13, .inl (cZ, 147, .inl (fun _ => 0))), (q14, .inl (cI, 3, .inl (fun _ => 0)))] H := hP
  have hD : va_D A [(h0, .inr (0, [.int 0, .ref q1, .ref q2, .ref q3, .ref q4, .ref q5, .ref q6, .ref q7, .ref q8, .ref q9, .ref q10, .ref q11, .ref q12, .ref q13, .ref q14, .null])), (q1, .inl (cZ, 48, .inl (fun _ => 0))), (q2, .inl (cI, 48, .inl (fun _ => 0))), (q3, .inl (cI, 48, .inl (fun _ => 0))), (q4, .inl (cI, 48, .inl (fun _ => 0))), (q5, .inl (cI, 48, .inl (fun _ => 0))), (q6, .inl (cI, 48, .inl (fun _ => 0))), (q7, .inl (cI, 48, .inl (fun _ => 0))), (q8, .inl (cI, 3, .inl (fun _ => 0))), (q9, .inl (cI, 147, .inl (fun _ => 0))), (q10, .inl (cI, 9, .inl (fun _ => 0))), (q11, .inl (cI, 3, .inl (fun _ => 0))), (q12, .inl (cI, 147, .inl (fun _ => 0))), (q13, .inl (cZ, 147, .inl (fun _ => 0))), (q14, .inl (cI, 3, .inl (fun _ => 0)))] := hD
  refine lv_aload_n hx hb dX0_init_116 rfl (lv_at hl 0 rfl) ?_
  refine lv_iconst (v := (nI 3)) hx hb dX0_init_117 (by decide +kernel) ?_
  refine tr_newI hx hb (hts _ q77) hK hP hD hS hA (by decide) (Nat.le_of_ble_eq_true rfl) (Nat.le_of_ble_eq_true rfl) dX0_init_118 (fun q15 H hP hD hS => ?_)
  have hP : va_P D tr_cl [(h0, .inr (0, [.int 0, .ref q1, .ref q2, .ref q3, .ref q4, .ref q5, .ref q6, .ref q7, .ref q8, .ref q9, .ref q10, .ref q11, .ref q12, .ref q13, .ref q14, .null])), (q1, .inl (cZ, 48, .inl (fun _ => 0))), (q2, .inl (cI, 48, .inl (fun _ => 0))), (q3, .inl (cI, 48, .inl (fun _ => 0))), (q4, .inl (cI, 48, .inl (fun _ => 0))), (q5, .inl (cI, 48, .inl (fun _ => 0))), (q6, .inl (cI, 48, .inl (fun _ => 0))), (q7, .inl (cI, 48, .inl (fun _ => 0))), (q8, .inl (cI, 3, .inl (fun _ => 0))), (q9, .inl (cI, 147, .inl (fun _ => 0))), (q10, .inl (cI, 9, .inl (fun _ => 0))), (q11, .inl (cI, 3, .inl (fun _ => 0))), (q12, .inl (cI, 147, .inl (fun _ => 0))), (q13, .inl (cZ, 147, .inl (fun _ => 0))), (q14, .inl (cI, 3, .inl (fun _ => 0))), (q15, .inl (cI, 3, .inl (fun _ => 0)))] H := hP
  have hD : va_D A [(h0, .inr (0, [.int 0, .ref q1, .ref q2, .ref q3, .ref q4, .ref q5, .ref q6, .ref q7, .ref q8, .ref q9, .ref q10, .ref q11, .ref q12, .ref q13, .ref q14, .null])), (q1, .inl (cZ, 48, .inl (fun _ => 0))), (q2, .inl (cI, 48, .inl (fun _ => 0))), (q3, .inl (cI, 48, .inl (fun _ => 0))), (q4, .inl (cI, 48, .inl (fun _ => 0))), (q5, .inl (cI, 48, .inl (fun _ => 0))), (q6, .inl (cI, 48, .inl (fun _ => 0))), (q7, .inl (cI, 48, .inl (fun _ => 0))), (q8, .inl (cI, 3, .inl (fun _ => 0))), (q9, .inl (cI, 147, .inl (fun _ => 0))), (q10, .inl (cI, 9, .inl (fun _ => 0))), (q11, .inl (cI, 3, .inl (fun _ => 0))), (q12, .inl (cI, 147, .inl (fun _ => 0))), (q13, .inl (cZ, 147, .inl (fun _ => 0))), (q14, .inl (cI, 3, .inl (fun _ => 0))), (q15, .inl (cI, 3, .inl (fun _ => 0)))] := hD
  refine va_putF (D := D) (ci := 0) (v := .ref q15) (ty := .array .int) (C := RX0) (T := TX0) (N := 16) hx hb hts in_X0 tyX0 tyX0_ok nmX0 S0.2.2.2.1 hK hP hD hS 0 rfl rfl 15 (by decide) (hts _ q42) (fun _ h9 => h9) rfl hin rfl (by decide +kernel) rfl rfl (Nat.le_of_ble_eq_true rfl) dX0_init_120 (fun H locs hP hD hS => ?_)
  have hP : va_P D tr_cl [(h0, .inr (0, [.int 0, .ref q1, .ref q2, .ref q3, .ref q4, .ref q5, .ref q6, .ref q7, .ref q8, .ref q9, .ref q10, .ref q11, .ref q12, .ref q13, .ref q14, .ref q15])), (q1, .inl (cZ, 48, .inl (fun _ => 0))), (q2, .inl (cI, 48, .inl (fun _ => 0))), (q3, .inl (cI, 48, .inl (fun _ => 0))), (q4, .inl (cI, 48, .inl (fun _ => 0))), (q5, .inl (cI, 48, .inl (fun _ => 0))), (q6, .inl (cI, 48, .inl (fun _ => 0))), (q7, .inl (cI, 48, .inl (fun _ => 0))), (q8, .inl (cI, 3, .inl (fun _ => 0))), (q9, .inl (cI, 147, .inl (fun _ => 0))), (q10, .inl (cI, 9, .inl (fun _ => 0))), (q11, .inl (cI, 3, .inl (fun _ => 0))), (q12, .inl (cI, 147, .inl (fun _ => 0))), (q13, .inl (cZ, 147, .inl (fun _ => 0))), (q14, .inl (cI, 3, .inl (fun _ => 0))), (q15, .inl (cI, 3, .inl (fun _ => 0)))] H := hP
  have hD : va_D A [(h0, .inr (0, [.int 0, .ref q1, .ref q2, .ref q3, .ref q4, .ref q5, .ref q6, .ref q7, .ref q8, .ref q9, .ref q10, .ref q11, .ref q12, .ref q13, .ref q14, .ref q15])), (q1, .inl (cZ, 48, .inl (fun _ => 0))), (q2, .inl (cI, 48, .inl (fun _ => 0))), (q3, .inl (cI, 48, .inl (fun _ => 0))), (q4, .inl (cI, 48, .inl (fun _ => 0))), (q5, .inl (cI, 48, .inl (fun _ => 0))), (q6, .inl (cI, 48, .inl (fun _ => 0))), (q7, .inl (cI, 48, .inl (fun _ => 0))), (q8, .inl (cI, 3, .inl (fun _ => 0))), (q9, .inl (cI, 147, .inl (fun _ => 0))), (q10, .inl (cI, 9, .inl (fun _ => 0))), (q11, .inl (cI, 3, .inl (fun _ => 0))), (q12, .inl (cI, 147, .inl (fun _ => 0))), (q13, .inl (cZ, 147, .inl (fun _ => 0))), (q14, .inl (cI, 3, .inl (fun _ => 0))), (q15, .inl (cI, 3, .inl (fun _ => 0)))] := hD
  obtain ⟨h, hh⟩ : ∃ h : Nat → Nat, h = (fun i => match i with | 0 => h0 | 1 => q1 | 2 => q2 | 3 => q3 | 4 => q4 | 5 => q5 | 6 => q6 | 7 => q7 | 8 => q8 | 9 => q9 | 10 => q10 | 11 => q11 | 12 => q12 | 13 => q13 | 14 => q14 | _ => q15) := ⟨_, rfl⟩
  have hh0 : h 0 = h0 := by subst hh; rfl
  have hP : va_P D tr_cl (wX h cI cZ (0, fun _ _ => 0)) H := by subst hh; exact hP
  have hD : va_D A (wX h cI cZ (0, fun _ _ => 0)) := by subst hh; exact hD
  rw [← hh0] at hl
  refine W.widen (k := 15) (n := 798) (Nat.le_of_ble_eq_true rfl) (Nat.le_of_ble_eq_true rfl) ?_
  refine lv_iconst (v := (nI 0)) hx hb dX0_init_123 (by decide +kernel) ?_
  refine lv_istore_n (lv' := [(1, .int (nI 0)), (0, .ref (h 0))]) hx hb dX0_init_124 rfl hl (by decide) rfl (fun ls hl => ?_)
  refine lv_iload_n hx hb dX0_init_125 rfl (lv_at hl 0 rfl) ?_
  refine lv_iconst (v := (nI 3)) hx hb dX0_init_126 (by decide +kernel) ?_
  refine tr_cge (tgt := 146) hx hb dX0_init_127 (by decide) (by omega) (by omega) (fun c127 => ?_) (fun c127 => ?_)
  · skip
    omega
  · skip
    refine lv_aload_n hx hb dX0_init_130 rfl (lv_at hl 1 rfl) ?_
    refine tr_xg (x := .ref (h 12)) S0 hK hP 12 (by decide) q39 rfl rfl dX0_init_131 ?_
    refine lv_bipush (v := (nI 49)) hx hb dX0_init_134 (by decide +kernel) ?_
    refine lv_iload_n hx hb dX0_init_136 rfl (lv_at hl 0 rfl) ?_
    refine tr_imul (z := (nI (49 * 0))) hx hb dX0_init_137 (pk_mul _ _) ?_
    refine lv_iconst (v := (iI 0)) hx hb dX0_init_138 (by decide +kernel) ?_
    refine tr_ast (ws' := wX h cI cZ (sX (0, fun _ _ => 0) 12 (49 * 0) (iI 0))) hx hb hK hP hD hS 12 0 rfl rfl (by decide) (by omega) rfl dX0_init_139 (fun H locs hP hD hS => ?_)
    refine lv_iinc (v := (nI 1)) (lv' := [(1, .int (nI 1)), (0, .ref (h 0))]) hx hb dX0_init_140 hl (k := 0) rfl (nI_inc _) (by decide) rfl (fun ls hl => ?_)
    refine lv_goto (tgt := 125) hx hb dX0_init_143 (by decide) ?_
    refine lv_iload_n hx hb dX0_init_125 rfl (lv_at hl 0 rfl) ?_
    refine lv_iconst (v := (nI 3)) hx hb dX0_init_126 (by decide +kernel) ?_
    refine tr_cge (tgt := 146) hx hb dX0_init_127 (by decide) (by omega) (by omega) (fun c127 => ?_) (fun c127 => ?_)
    · skip
      omega
    · skip
      refine lv_aload_n hx hb dX0_init_130 rfl (lv_at hl 1 rfl) ?_
      refine tr_xg (x := .ref (h 12)) S0 hK hP 12 (by decide) q39 rfl rfl dX0_init_131 ?_
      refine lv_bipush (v := (nI 49)) hx hb dX0_init_134 (by decide +kernel) ?_
      refine lv_iload_n hx hb dX0_init_136 rfl (lv_at hl 0 rfl) ?_
      refine tr_imul (z := (nI (49 * 1))) hx hb dX0_init_137 (pk_mul _ _) ?_
      refine lv_iconst (v := (iI 0)) hx hb dX0_init_138 (by decide +kernel) ?_
      refine tr_ast (ws' := wX h cI cZ (sX (sX (0, fun _ _ => 0) 12 (49 * 0) (iI 0)) 12 (49 * 1) (iI 0))) hx hb hK hP hD hS 12 0 rfl rfl (by decide) (by omega) rfl dX0_init_139 (fun H locs hP hD hS => ?_)
      refine lv_iinc (v := (nI 2)) (lv' := [(1, .int (nI 2)), (0, .ref (h 0))]) hx hb dX0_init_140 hl (k := 0) rfl (nI_inc _) (by decide) rfl (fun ls hl => ?_)
      refine lv_goto (tgt := 125) hx hb dX0_init_143 (by decide) ?_
      refine lv_iload_n hx hb dX0_init_125 rfl (lv_at hl 0 rfl) ?_
      refine lv_iconst (v := (nI 3)) hx hb dX0_init_126 (by decide +kernel) ?_
      refine tr_cge (tgt := 146) hx hb dX0_init_127 (by decide) (by omega) (by omega) (fun c127 => ?_) (fun c127 => ?_)
      · skip
        omega
      · skip
        refine lv_aload_n hx hb dX0_init_130 rfl (lv_at hl 1 rfl) ?_
        refine tr_xg (x := .ref (h 12)) S0 hK hP 12 (by decide) q39 rfl rfl dX0_init_131 ?_
        refine lv_bipush (v := (nI 49)) hx hb dX0_init_134 (by decide +kernel) ?_
        refine lv_iload_n hx hb dX0_init_136 rfl (lv_at hl 0 rfl) ?_
        refine tr_imul (z := (nI (49 * 2))) hx hb dX0_init_137 (pk_mul _ _) ?_
        refine lv_iconst (v := (iI 0)) hx hb dX0_init_138 (by decide +kernel) ?_
        refine tr_ast (ws' := wX h cI cZ (sX (sX (sX (0, fun _ _ => 0) 12 (49 * 0) (iI 0)) 12 (49 * 1) (iI 0)) 12 (49 * 2) (iI 0))) hx hb hK hP hD hS 12 0 rfl rfl (by decide) (by omega) rfl dX0_init_139 (fun H locs hP hD hS => ?_)
        refine lv_iinc (v := (nI 3)) (lv' := [(1, .int (nI 3)), (0, .ref (h 0))]) hx hb dX0_init_140 hl (k := 0) rfl (nI_inc _) (by decide) rfl (fun ls hl => ?_)
        refine lv_goto (tgt := 125) hx hb dX0_init_143 (by decide) ?_
        refine lv_iload_n hx hb dX0_init_125 rfl (lv_at hl 0 rfl) ?_
        refine lv_iconst (v := (nI 3)) hx hb dX0_init_126 (by decide +kernel) ?_
        refine tr_cge (tgt := 146) hx hb dX0_init_127 (by decide) (by omega) (by omega) (fun c127 => ?_) (fun c127 => ?_)
        · skip
          exact tr_vret (wv := wvX cI cZ) (u := (h, (sX (sX (sX (0, fun _ _ => 0) 12 (49 * 0) (iI 0)) 12 (49 * 1) (iI 0)) 12 (49 * 2) (iI 0)))) hx hb hret hlk hK hP hD hS dX0_init_146 ⟨hh0, RepX_0⟩
        · skip
          omega
set_option maxHeartbeats 4000000 in
theorem tr_M_init (l : Launch) (D : va_G) (cI cZ : ClassId) (h0 : Nat) : tr_MC l yX1_init cX1_init 1 1 12 7 432 D tr_cl (tr_ty cI cZ) [(h0, .inr (1, tr_nM))] (wvM cI cZ) [.ref h0] (fun st => st.1 0 = h0 ∧ RepM tr_S0 st.2) := by
  refine tr_enterC RX1 rfl rfl (by decide) (Nat.le_of_ble_eq_true rfl) ?_
  intro p e s m below meth c0 A ls S0 hret hlk hin hK hP hD hS hA hl
  have hx := S0.1
  have hb := S0.2.1
  have hts := S0.2.2.2.2
  have hl : lv_has ls 1 [(0, .ref h0)] := hl
  refine lv_aload_n hx hb dX1_init_0 rfl (lv_at hl 0 rfl) ?_
  refine W.objInit hx hb S0.2.2.2.1 (hts _ q154) (hts _ q25) (hts _ q26) rfl (by rw [S0.2.2.1]; exact hl.1) rfl dX1_init_1 (Nat.le_of_ble_eq_true rfl) (Nat.le_of_ble_eq_true rfl) ?_
  refine W.eq (g2 := F0 m 4 ls []) rfl ?_
  refine lv_aload_n hx hb dX1_init_4 rfl (lv_at hl 0 rfl) ?_
  refine lv_bipush (v := (nI 48)) hx hb dX1_init_5 (by decide +kernel) ?_
  refine tr_newI hx hb (hts _ q77) hK hP hD hS hA (by decide) (Nat.le_of_ble_eq_true rfl) (Nat.le_of_ble_eq_true rfl) dX1_init_7 (fun q1 H hP hD hS => ?_)
  have hP : va_P D tr_cl [(h0, .inr (1, [.int 0, .null, .null, .null, .null, .null, .null, .int 0, .null])), (q1, .inl (cI, 48, .inl (fun _ => 0)))] H := hP
  have hD : va_D A [(h0, .inr (1, [.int 0, .null, .null, .null, .null, .null, .null, .int 0, .null])), (q1, .inl (cI, 48, .inl (fun _ => 0)))] := hD
  refine va_putF (D := D) (ci := 1) (v := .ref q1) (ty := .array .int) (C := RX1) (T := TX1) (N := 9) hx hb hts in_X1 tyX1 tyX1_ok nmX1 S0.2.2.2.1 hK hP hD hS 0 rfl rfl 1 (by decide) (hts _ q156) (fun _ h9 => h9) rfl hin rfl (by decide +kernel) rfl rfl (Nat.le_of_ble_eq_true rfl) dX1_init_9 (fun H locs hP hD hS => ?_)
  have hP : va_P D tr_cl [(h0, .inr (1, [.int 0, .ref q1, .null, .null, .null, .null, .null, .int 0, .null])), (q1, .inl (cI, 48, .inl (fun _ => 0)))] H := hP
  have hD : va_D A [(h0, .inr (1, [.int 0, .ref q1, .null, .null, .null, .null, .null, .int 0, .null])), (q1, .inl (cI, 48, .inl (fun _ => 0)))] := hD
  refine lv_aload_n hx hb dX1_init_12 rfl (lv_at hl 0 rfl) ?_
  refine lv_bipush (v := (nI 48)) hx hb dX1_init_13 (by decide +kernel) ?_
  refine tr_newZ hx hb (hts _ q76) hK hP hD hS hA (by decide) (Nat.le_of_ble_eq_true rfl) (Nat.le_of_ble_eq_true rfl) dX1_init_15 (fun q2 H hP hD hS => ?_)
  have hP : va_P D tr_cl [(h0, .inr (1, [.int 0, .ref q1, .null, .null, .null, .null, .null, .int 0, .null])), (q1, .inl (cI, 48, .inl (fun _ => 0))), (q2, .inl (cZ, 48, .inl (fun _ => 0)))] H := hP
  have hD : va_D A [(h0, .inr (1, [.int 0, .ref q1, .null, .null, .null, .null, .null, .int 0, .null])), (q1, .inl (cI, 48, .inl (fun _ => 0))), (q2, .inl (cZ, 48, .inl (fun _ => 0)))] := hD
  refine va_putF (D := D) (ci := 1) (v := .ref q2) (ty := .array .boolean) (C := RX1) (T := TX1) (N := 9) hx hb hts in_X1 tyX1 tyX1_ok nmX1 S0.2.2.2.1 hK hP hD hS 0 rfl rfl 2 (by decide) (hts _ q157) (fun _ h9 => h9) rfl hin rfl (by decide +kernel) rfl rfl (Nat.le_of_ble_eq_true rfl) dX1_init_17 (fun H locs hP hD hS => ?_)
  have hP : va_P D tr_cl [(h0, .inr (1, [.int 0, .ref q1, .ref q2, .null, .null, .null, .null, .int 0, .null])), (q1, .inl (cI, 48, .inl (fun _ => 0))), (q2, .inl (cZ, 48, .inl (fun _ => 0)))] H := hP
  have hD : va_D A [(h0, .inr (1, [.int 0, .ref q1, .ref q2, .null, .null, .null, .null, .int 0, .null])), (q1, .inl (cI, 48, .inl (fun _ => 0))), (q2, .inl (cZ, 48, .inl (fun _ => 0)))] := hD
  refine lv_aload_n hx hb dX1_init_20 rfl (lv_at hl 0 rfl) ?_
  refine lv_bipush (v := (nI 48)) hx hb dX1_init_21 (by decide +kernel) ?_
  refine tr_newI hx hb (hts _ q77) hK hP hD hS hA (by decide) (Nat.le_of_ble_eq_true rfl) (Nat.le_of_ble_eq_true rfl) dX1_init_23 (fun q3 H hP hD hS => ?_)
  have hP : va_P D tr_cl [(h0, .inr (1, [.int 0, .ref q1, .ref q2, .null, .null, .null, .null, .int 0, .null])), (q1, .inl (cI, 48, .inl (fun _ => 0))), (q2, .inl (cZ, 48, .inl (fun _ => 0))), (q3, .inl (cI, 48, .inl (fun _ => 0)))] H := hP
  have hD : va_D A [(h0, .inr (1, [.int 0, .ref q1, .ref q2, .null, .null, .null, .null, .int 0, .null])), (q1, .inl (cI, 48, .inl (fun _ => 0))), (q2, .inl (cZ, 48, .inl (fun _ => 0))), (q3, .inl (cI, 48, .inl (fun _ => 0)))] := hD
  refine va_putF (D := D) (ci := 1) (v := .ref q3) (ty := .array .int) (C := RX1) (T := TX1) (N := 9) hx hb hts in_X1 tyX1 tyX1_ok nmX1 S0.2.2.2.1 hK hP hD hS 0 rfl rfl 3 (by decide) (hts _ q158) (fun _ h9 => h9) rfl hin rfl (by decide +kernel) rfl rfl (Nat.le_of_ble_eq_true rfl) dX1_init_25 (fun H locs hP hD hS => ?_)
  have hP : va_P D tr_cl [(h0, .inr (1, [.int 0, .ref q1, .ref q2, .ref q3, .null, .null, .null, .int 0, .null])), (q1, .inl (cI, 48, .inl (fun _ => 0))), (q2, .inl (cZ, 48, .inl (fun _ => 0))), (q3, .inl (cI, 48, .inl (fun _ => 0)))] H := hP
  have hD : va_D A [(h0, .inr (1, [.int 0, .ref q1, .ref q2, .ref q3, .null, .null, .null, .int 0, .null])), (q1, .inl (cI, 48, .inl (fun _ => 0))), (q2, .inl (cZ, 48, .inl (fun _ => 0))), (q3, .inl (cI, 48, .inl (fun _ => 0)))] := hD
  refine lv_aload_n hx hb dX1_init_28 rfl (lv_at hl 0 rfl) ?_
  refine lv_bipush (v := (nI 48)) hx hb dX1_init_29 (by decide +kernel) ?_
  refine tr_newI hx hb (hts _ q77) hK hP hD hS hA (by decide) (Nat.le_of_ble_eq_true rfl) (Nat.le_of_ble_eq_true rfl) dX1_init_31 (fun q4 H hP hD hS => ?_)
  have hP : va_P D tr_cl [(h0, .inr (1, [.int 0, .ref q1, .ref q2, .ref q3, .null, .null, .null, .int 0, .null])), (q1, .inl (cI, 48, .inl (fun _ => 0))), (q2, .inl (cZ, 48, .inl (fun _ => 0))), (q3, .inl (cI, 48, .inl (fun _ => 0))), (q4, .inl (cI, 48, .inl (fun _ => 0)))] H := hP
  have hD : va_D A [(h0, .inr (1, [.int 0, .ref q1, .ref q2, .ref q3, .null, .null, .null, .int 0, .null])), (q1, .inl (cI, 48, .inl (fun _ => 0))), (q2, .inl (cZ, 48, .inl (fun _ => 0))), (q3, .inl (cI, 48, .inl (fun _ => 0))), (q4, .inl (cI, 48, .inl (fun _ => 0)))] := hD
  refine va_putF (D := D) (ci := 1) (v := .ref q4) (ty := .array .int) (C := RX1) (T := TX1) (N := 9) hx hb hts in_X1 tyX1 tyX1_ok nmX1 S0.2.2.2.1 hK hP hD hS 0 rfl rfl 4 (by decide) (hts _ q159) (fun _ h9 => h9) rfl hin rfl (by decide +kernel) rfl rfl (Nat.le_of_ble_eq_true rfl) dX1_init_33 (fun H locs hP hD hS => ?_)
  have hP : va_P D tr_cl [(h0, .inr (1, [.int 0, .ref q1, .ref q2, .ref q3, .ref q4, .null, .null, .int 0, .null])), (q1, .inl (cI, 48, .inl (fun _ => 0))), (q2, .inl (cZ, 48, .inl (fun _ => 0))), (q3, .inl (cI, 48, .inl (fun _ => 0))), (q4, .inl (cI, 48, .inl (fun _ => 0)))] H := hP
  have hD : va_D A [(h0, .inr (1, [.int 0, .ref q1, .ref q2, .ref q3, .ref q4, .null, .null, .int 0, .null])), (q1, .inl (cI, 48, .inl (fun _ => 0))), (q2, .inl (cZ, 48, .inl (fun _ => 0))), (q3, .inl (cI, 48, .inl (fun _ => 0))), (q4, .inl (cI, 48, .inl (fun _ => 0)))] := hD
  refine lv_aload_n hx hb dX1_init_36 rfl (lv_at hl 0 rfl) ?_
  refine lv_bipush (v := (nI 48)) hx hb dX1_init_37 (by decide +kernel) ?_
  refine tr_newI hx hb (hts _ q77) hK hP hD hS hA (by decide) (Nat.le_of_ble_eq_true rfl) (Nat.le_of_ble_eq_true rfl) dX1_init_39 (fun q5 H hP hD hS => ?_)
  have hP : va_P D tr_cl [(h0, .inr (1, [.int 0, .ref q1, .ref q2, .ref q3, .ref q4, .null, .null, .int 0, .null])), (q1, .inl (cI, 48, .inl (fun _ => 0))), (q2, .inl (cZ, 48, .inl (fun _ => 0))), (q3, .inl (cI, 48, .inl (fun _ => 0))), (q4, .inl (cI, 48, .inl (fun _ => 0))), (q5, .inl (cI, 48, .inl (fun _ => 0)))] H := hP
  have hD : va_D A [(h0, .inr (1, [.int 0, .ref q1, .ref q2, .ref q3, .ref q4, .null, .null, .int 0, .null])), (q1, .inl (cI, 48, .inl (fun _ => 0))), (q2, .inl (cZ, 48, .inl (fun _ => 0))), (q3, .inl (cI, 48, .inl (fun _ => 0))), (q4, .inl (cI, 48, .inl (fun _ => 0))), (q5, .inl (cI, 48, .inl (fun _ => 0)))] := hD
  refine va_putF (D := D) (ci := 1) (v := .ref q5) (ty := .array .int) (C := RX1) (T := TX1) (N := 9) hx hb hts in_X1 tyX1 tyX1_ok nmX1 S0.2.2.2.1 hK hP hD hS 0 rfl rfl 5 (by decide) (hts _ q160) (fun _ h9 => h9) rfl hin rfl (by decide +kernel) rfl rfl (Nat.le_of_ble_eq_true rfl) dX1_init_41 (fun H locs hP hD hS => ?_)
  have hP : va_P D tr_cl [(h0, .inr (1, [.int 0, .ref q1, .ref q2, .ref q3, .ref q4, .ref q5, .null, .int 0, .null])), (q1, .inl (cI, 48, .inl (fun _ => 0))), (q2, .inl (cZ, 48, .inl (fun _ => 0))), (q3, .inl (cI, 48, .inl (fun _ => 0))), (q4, .inl (cI, 48, .inl (fun _ => 0))), (q5, .inl (cI, 48, .inl (fun _ => 0)))] H := hP
  have hD : va_D A [(h0, .inr (1, [.int 0, .ref q1, .ref q2, .ref q3, .ref q4, .ref q5, .null, .int 0, .null])), (q1, .inl (cI, 48, .inl (fun _ => 0))), (q2, .inl (cZ, 48, .inl (fun _ => 0))), (q3, .inl (cI, 48, .inl (fun _ => 0))), (q4, .inl (cI, 48, .inl (fun _ => 0))), (q5, .inl (cI, 48, .inl (fun _ => 0)))] := hD
  refine lv_aload_n hx hb dX1_init_44 rfl (lv_at hl 0 rfl) ?_
  refine lv_sipush (v := (nI 144)) hx hb dX1_init_45 (by decide +kernel) ?_
  refine tr_newZ hx hb (hts _ q76) hK hP hD hS hA (by decide) (Nat.le_of_ble_eq_true rfl) (Nat.le_of_ble_eq_true rfl) dX1_init_48 (fun q6 H hP hD hS => ?_)
  have hP : va_P D tr_cl [(h0, .inr (1, [.int 0, .ref q1, .ref q2, .ref q3, .ref q4, .ref q5, .null, .int 0, .null])), (q1, .inl (cI, 48, .inl (fun _ => 0))), (q2, .inl (cZ, 48, .inl (fun _ => 0))), (q3, .inl (cI, 48, .inl (fun _ => 0))), (q4, .inl (cI, 48, .inl (fun _ => 0))), (q5, .inl (cI, 48, .inl (fun _ => 0))), (q6, .inl (cZ, 144, .inl (fun _ => 0)))] H := hP
  have hD : va_D A [(h0, .inr (1, [.int 0, .ref q1, .ref q2, .ref q3, .ref q4, .ref q5, .null, .int 0, .null])), (q1, .inl (cI, 48, .inl (fun _ => 0))), (q2, .inl (cZ, 48, .inl (fun _ => 0))), (q3, .inl (cI, 48, .inl (fun _ => 0))), (q4, .inl (cI, 48, .inl (fun _ => 0))), (q5, .inl (cI, 48, .inl (fun _ => 0))), (q6, .inl (cZ, 144, .inl (fun _ => 0)))] := hD
  refine va_putF (D := D) (ci := 1) (v := .ref q6) (ty := .array .boolean) (C := RX1) (T := TX1) (N := 9) hx hb hts in_X1 tyX1 tyX1_ok nmX1 S0.2.2.2.1 hK hP hD hS 0 rfl rfl 6 (by decide) (hts _ q161) (fun _ h9 => h9) rfl hin rfl (by decide +kernel) rfl rfl (Nat.le_of_ble_eq_true rfl) dX1_init_50 (fun H locs hP hD hS => ?_)
  have hP : va_P D tr_cl [(h0, .inr (1, [.int 0, .ref q1, .ref q2, .ref q3, .ref q4, .ref q5, .ref q6, .int 0, .null])), (q1, .inl (cI, 48, .inl (fun _ => 0))), (q2, .inl (cZ, 48, .inl (fun _ => 0))), (q3, .inl (cI, 48, .inl (fun _ => 0))), (q4, .inl (cI, 48, .inl (fun _ => 0))), (q5, .inl (cI, 48, .inl (fun _ => 0))), (q6, .inl (cZ, 144, .inl (fun _ => 0)))] H := hP
  have hD : va_D A [(h0, .inr (1, [.int 0, .ref q1, .ref q2, .ref q3, .ref q4, .ref q5, .ref q6, .int 0, .null])), (q1, .inl (cI, 48, .inl (fun _ => 0))), (q2, .inl (cZ, 48, .inl (fun _ => 0))), (q3, .inl (cI, 48, .inl (fun _ => 0))), (q4, .inl (cI, 48, .inl (fun _ => 0))), (q5, .inl (cI, 48, .inl (fun _ => 0))), (q6, .inl (cZ, 144, .inl (fun _ => 0)))] := hD
  refine lv_aload_n hx hb dX1_init_53 rfl (lv_at hl 0 rfl) ?_
  refine lv_bipush (v := (nI 48)) hx hb dX1_init_54 (by decide +kernel) ?_
  refine tr_newI hx hb (hts _ q77) hK hP hD hS hA (by decide) (Nat.le_of_ble_eq_true rfl) (Nat.le_of_ble_eq_true rfl) dX1_init_56 (fun q8 H hP hD hS => ?_)
  have hP : va_P D tr_cl [(h0, .inr (1, [.int 0, .ref q1, .ref q2, .ref q3, .ref q4, .ref q5, .ref q6, .int 0, .null])), (q1, .inl (cI, 48, .inl (fun _ => 0))), (q2, .inl (cZ, 48, .inl (fun _ => 0))), (q3, .inl (cI, 48, .inl (fun _ => 0))), (q4, .inl (cI, 48, .inl (fun _ => 0))), (q5, .inl (cI, 48, .inl (fun _ => 0))), (q6, .inl (cZ, 144, .inl (fun _ => 0))), (q8, .inl (cI, 48, .inl (fun _ => 0)))] H := hP
  have hD : va_D A [(h0, .inr (1, [.int 0, .ref q1, .ref q2, .ref q3, .ref q4, .ref q5, .ref q6, .int 0, .null])), (q1, .inl (cI, 48, .inl (fun _ => 0))), (q2, .inl (cZ, 48, .inl (fun _ => 0))), (q3, .inl (cI, 48, .inl (fun _ => 0))), (q4, .inl (cI, 48, .inl (fun _ => 0))), (q5, .inl (cI, 48, .inl (fun _ => 0))), (q6, .inl (cZ, 144, .inl (fun _ => 0))), (q8, .inl (cI, 48, .inl (fun _ => 0)))] := hD
  refine va_putF (D := D) (ci := 1) (v := .ref q8) (ty := .array .int) (C := RX1) (T := TX1) (N := 9) hx hb hts in_X1 tyX1 tyX1_ok nmX1 S0.2.2.2.1 hK hP hD hS 0 rfl rfl 8 (by decide) (hts _ q163) (fun _ h9 => h9) rfl hin rfl (by decide +kernel) rfl rfl (Nat.le_of_ble_eq_true rfl) dX1_init_58 (fun H locs hP hD hS => ?_)
  have hP : va_P D tr_cl [(h0, .inr (1, [.int 0, .ref q1, .ref q2, .ref q3, .ref q4, .ref q5, .ref q6, .int 0, .ref q8])), (q1, .inl (cI, 48, .inl (fun _ => 0))), (q2, .inl (cZ, 48, .inl (fun _ => 0))), (q3, .inl (cI, 48, .inl (fun _ => 0))), (q4, .inl (cI, 48, .inl (fun _ => 0))), (q5, .inl (cI, 48, .inl (fun _ => 0))), (q6, .inl (cZ, 144, .inl (fun _ => 0))), (q8, .inl (cI, 48, .inl (fun _ => 0)))] H := hP
  have hD : va_D A [(h0, .inr (1, [.int 0, .ref q1, .ref q2, .ref q3, .ref q4, .ref q5, .ref q6, .int 0, .ref q8])), (q1, .inl (cI, 48, .inl (fun _ => 0))), (q2, .inl (cZ, 48, .inl (fun _ => 0))), (q3, .inl (cI, 48, .inl (fun _ => 0))), (q4, .inl (cI, 48, .inl (fun _ => 0))), (q5, .inl (cI, 48, .inl (fun _ => 0))), (q6, .inl (cZ, 144, .inl (fun _ => 0))), (q8, .inl (cI, 48, .inl (fun _ => 0)))] := hD
  obtain ⟨h, hh⟩ : ∃ h : Nat → Nat, h = (fun i => match i with | 0 => h0 | 1 => q1 | 2 => q2 | 3 => q3 | 4 => q4 | 5 => q5 | 6 => q6 | _ => q8) := ⟨_, rfl⟩
  have hh0 : h 0 = h0 := by subst hh; rfl
  have hP : va_P D tr_cl (wM h cI cZ (0, 0, fun _ _ => 0)) H := by subst hh; exact hP
  have hD : va_D A (wM h cI cZ (0, 0, fun _ _ => 0)) := by subst hh; exact hD
  refine W.widen (k := 7) (n := 432) (Nat.le_of_ble_eq_true rfl) (Nat.le_of_ble_eq_true rfl) ?_
  exact tr_vret (wv := wvM cI cZ) (u := (h, (0, 0, fun _ _ => 0))) hx hb hret hlk hK hP hD hS dX1_init_61 ⟨hh0, RepM_0⟩
end
section
set_option maxRecDepth 100000
/-! THE CLAIM OUT OF ONE WALK OF THE LAW'S BODY. Your part is whole_start (and what it stands on); all else here is the same for every law, but numbers. -/
def R_law : String := "TextReplicaLaw"
def lw_P (b : Addr) (xs : List Int32) (args : Array Value) (s : State) : Prop := args = #[.ref b] ∧ s.IntsAt b xs ∧ xs.length ≤ 256 ∧ (Jvm.Cond.and given_1 narrow_1).before args s = true
def lw_Q (_ : Array Value) (s : State) (o : Outcome) (t : State) : Prop := o = .returned (some (.int 1)) ∧ Framed s o t [] 600000 7290000
def lw_Z (below : List Frame) (a : Array Value) (s : State) : State → Prop := fun t => ∃ o, t.status = .running ∧ Ended t below o ∧ lw_Q a s o t
/-- the law's own end, with 1 on the stack, nothing written that was there before, its room as the claim has it -/
theorem lw_ret {p : Program} {l : Launch} {e : Env} {s : State} {m : MethodId} {below : List Frame} {meth : Method} {c : Code} {b : Nat} (hx : p.tables.exec = Jvm.exec) (hb : c.code = code) (hr : meth.sig.returnType = ret) (hlocks : meth.locks = false) {pc : Nat} {H : Heap} {ls : Array Slot} (hdg : decode code pc = .ok (.ireturn, 1)) : W p l e room_1 s m #[Value.ref b] below meth c H [] 600000 7290000 (lw_Z below #[Value.ref b] s) (F0 m pc ls [.int 1]) := by
  intro T hT X
  obtain ⟨fs, hret, hrun, hended, hW, hframe⟩ := X.leave (v := some (.int 1)) (hlocks := hlocks) (fun h => by rw [hr] at h; cases h)
  have hmeth' : T.vm.method? m = some meth := X.method'
  refine ⟨T.setFrames fs, ?_, .returned (some (.int 1)), hrun, hended, rfl, ⟨_, rfl⟩, hW, hframe⟩
  jvm_step X.here [X.here.top, hx, hb, hdg, hmeth', hr, ret, narrow_b1]
  (try refine ⟨rfl, ?_⟩); (try refine ⟨rfl, ?_⟩)
  first | (intro acts; rw [hret _ acts rfl rfl rfl]) | rw [hret _ _ rfl rfl rfl]
  exact Steps.refl _
/-- what holds at the law's entry: the machine, the code, the tables' words (any of lw_tbl by 'hts w (by decide +kernel)'), the script of L ints xs at the cell b, what the Statement gives of the start (any of its parts by flat_of_before) -/
def lw_At (p : Program) (s : State) (m : MethodId) (meth : Method) (c : Code) (b L : Nat) (xs : Nat → Int32) : Prop :=
  p.tables.exec = Jvm.exec ∧ c.code = code ∧ meth.sig.returnType = ret ∧ c.maxLocals = 4 ∧ s.vm.findClass R_law = some m.cls ∧ (∀ w ∈ lw_tbl, w.before #[Value.ref b] s = true) ∧ va_X b L xs s s.heap ∧ b < s.heap.size ∧ meth.locks = false ∧ (Jvm.Cond.and given_1 narrow_1).before #[Value.ref b] s = true
end
section
/-! the law: calls out of its world (printed by gen/law.py) -/
set_option maxRecDepth 100000
abbrev wL (g h : Nat → Nat) (cI cZ : ClassId) (q : XW × MW) : va_W := wX g cI cZ q.1 ++ wM h cI cZ q.2
section TRL
variable {l : Launch} {D : va_G} {cl : List vw_C} {tys : List (ClassId × FieldType)} {σ : Type} {wv : σ → va_W} {u : σ} {y : MethodName} {bytes : ByteArray} {maxL : Nat} {ret : Option FieldType} {fr lo : Nat} {As : List Value}
variable {p : Program} {e : Env} {R : Room} {s : State} {m : MethodId} {args : Array Value} {below : List Frame} {meth : Method} {c : Code} {H : Heap} {locs : List Loc} {cells slots : Nat} {Q : State → Prop}
variable {cc : ByteArray} {pc nL n index : Nat} {ls : Array Slot} {rest st0 : List Value} {A : Nat → Prop} {own C : String} {ws wr ws0 : va_W} {mc ms : Nat}
theorem tr_atC {w : va_W} {is : List Nat} (hs : is.map (fun i => ws[i]?) = w.map some) : ∀ (k : Nat) (q : Nat × va_E), w[k]? = some q → ∃ i, is[k]? = some i ∧ ws[i]? = some q := by
  intro k q hq
  have h1 : (is.map (fun i => ws[i]?))[k]? = some (some q) := by rw [hs, List.getElem?_map, hq]; rfl
  rw [List.getElem?_map] at h1
  cases hi : is[k]? with
  | none => rw [hi] at h1; cases h1
  | some i => rw [hi] at h1; exact ⟨i, rfl, Option.some.inj h1⟩
/-- a call on a part of the world -/
theorem tr_callL {post : Int32 → σ → Prop} {b : Nat} {T : u_T} {N ci : Nat} {fs : List Value} (S : CallFix p m c cc nL s args lw_all own) (hM : tr_MI l y bytes maxL ret fr lo D cl tys wv (.ref b :: As) u post) (n : Nat) (hV : GoodIn lw_all (wsV own index C y (ws_ y bytes maxL ret)))
    (hd : y.cls = C ∧ y.cls ≠ "java/lang/invoke/MethodHandle" ∧ y.cls ≠ "java/lang/invoke/VarHandle" ∧ (parseMethodDescriptor y.desc).map (fun d => d.parameters.length) = some n) (hR : fr + 1 ≤ R.frames ∧ 8 + (maxL + 11) + lo ≤ R.locals)
    (hK : va_K D cl tys s) (hP : va_P D cl ws H) (hD : va_D A ws) (hS : va_S A s.heap H locs) (hA : ∀ q : Nat, s.heap.size ≤ q → A q) (isC isR : List Nat) (hC : isC.map (fun i => ws[i]?) = (wv u).map some) (hRr : isR.map (fun i => ws[i]?) = wr.map some) (hnC : va_nd isC = true) (hnR : va_nd isR = true) (hdis : ∀ i ∈ isR, i ∉ isC)
    (hrecv : (wv u)[0]? = some (b, .inr (ci, fs))) (hc : cl[ci]? = some (C, T, N)) (hn : As.length = n) (hl : ls.size = nL) (hst : st0 = As.reverse ++ .ref b :: rest) (hw : (rest.map fun v => v.category).sum ≤ 8) (hdg : decode cc pc = .ok (.invokevirtual index, 3)) (hf : cells ≤ R.cells ∧ slots ≤ R.slots)
    (kk : ∀ (r : Int32) (u' : σ) (H1 : Heap) (locs1 : List Loc), post r u' → va_P D cl (wr ++ wv u') H1 → va_D A (wr ++ wv u') → va_S A s.heap H1 locs1 → W p l e R s m args below meth c H1 locs1 cells slots Q (F0 m (pc + 3) ls (.int r :: rest))) : W p l e R s m args below meth c H locs cells slots Q (F0 m pc ls st0) := by
  have hPc : va_P D cl (wv u) H := fun k q hq => by
    obtain ⟨i, -, h2⟩ := tr_atC hC k q hq
    exact hP i q h2
  have hDc : va_D A (wv u) := hD.sub isC hnC hC
  have hFc := tr_freeA hDc hS hA
  refine va_calli (va_runV (As := As) (rest := rest) S (hM H.size) (cwV n S.2.2.2.2 hV rfl rfl rfl hd hR) ⟨tr_blind _ _ _, va_recv hK hPc hc hrecv, fun U hU hW => ⟨rfl, by rw [hU], by rw [hU]; exact hPc, va_K.moved hW.alike hK, hDc.weaken (fun _ _ _ _ => trivial)⟩⟩ rfl hn hl hst (lv_room hw) hdg hf) hS (fun q _ h => hFc q h) hFc (fun r u' t H1 locs1 ht hvm hpost hB hz hk hS1 => ?_)
  obtain ⟨hP1, hK1, hD1⟩ := hB
  rw [ht] at hP1
  obtain ⟨hP2, hD2⟩ := va_join hP hD isC isR hC hRr hnR hdis hk hFc hP1 hD1
  exact kk r u' H1 locs1 hpost hP2 hD2 hS1
/-- a constructor's call on a part of the world -/
theorem tr_callC {post : σ → Prop} {b : Nat} (S : CallFix p m c cc nL s args lw_all own) (hM : tr_MC l y bytes maxL fr lo mc ms D cl tys ws0 wv (.ref b :: As) post) (n : Nat) (hG : GoodIn lw_all (ws_ y bytes maxL none)) (hini : Cond.initialized y.cls ∈ lw_all) (hlk : Cond.methodLink own index y ∈ lw_all) (him : Cond.instanceMethod y ∈ lw_all) (hy1 : y.name = "<init>")
    (hd : y.cls ≠ "java/lang/invoke/MethodHandle" ∧ y.cls ≠ "java/lang/invoke/VarHandle" ∧ (parseMethodDescriptor y.desc).map (fun d => d.parameters.length) = some n) (hR : fr + 1 ≤ R.frames ∧ 8 + (maxL + 11) + lo ≤ R.locals)
    (hK : va_K D cl tys s) (hP : va_P D cl ws H) (hD : va_D A ws) (hS : va_S A s.heap H locs) (hA : ∀ q : Nat, s.heap.size ≤ q → A q) (isC isR : List Nat) (hC : isC.map (fun i => ws[i]?) = ws0.map some) (hRr : isR.map (fun i => ws[i]?) = wr.map some) (hnC : va_nd isC = true) (hnR : va_nd isR = true) (hdis : ∀ i ∈ isR, i ∉ isC)
    (hn : As.length = n) (hl : ls.size = nL) (hst : st0 = As.reverse ++ .ref b :: rest) (hw : (rest.map fun v => v.category).sum ≤ 8) (hdg : decode cc pc = .ok (.invokespecial index, 3)) (hf : cells + mc ≤ R.cells ∧ slots + ms ≤ R.slots)
    (kk : ∀ (u' : σ) (H1 : Heap) (locs1 : List Loc), post u' → va_P D cl (wr ++ wv u') H1 → va_D A (wr ++ wv u') → va_S A s.heap H1 locs1 → W p l e R s m args below meth c H1 locs1 (cells + mc) (slots + ms) Q (F0 m (pc + 3) ls rest)) : W p l e R s m args below meth c H locs cells slots Q (F0 m pc ls st0) := by
  have hts := S.2.2.2.2
  have hPc : va_P D cl ws0 H := fun k q hq => by
    obtain ⟨i, -, h2⟩ := tr_atC hC k q hq
    exact hP i q h2
  have hDc : va_D A ws0 := hD.sub isC hnC hC
  have hFc : ∀ q, va_A ws0 H.size q → A q := tr_freeA (wv := fun _ : Unit => ws0) (u := ()) hDc hS hA
  refine va_callv (va_runI (As := As) (rest := rest) S (hM H.size) (cwI n hts hG rfl rfl rfl (hts _ hini) (hts _ hlk) (hts _ him) hy1 hd hR) ⟨tr_blind _ _ _, fun U hU hW => ⟨rfl, by rw [hU], by rw [hU]; exact hPc, va_K.moved hW.alike hK, hDc.weaken (fun _ _ _ _ => trivial)⟩⟩ rfl hn hl hst (lv_room hw) hdg hf) hS (fun q _ h => hFc q h) hFc (fun u' t H1 locs1 ht hvm hpost hB hz hk hS1 => ?_)
  obtain ⟨hP1, hK1, hD1⟩ := hB
  rw [ht] at hP1
  obtain ⟨hP2, hD2⟩ := va_join hP hD isC isR hC hRr hnR hdis hk hFc hP1 hD1
  exact kk u' H1 locs1 hpost hP2 hD2 hS1
/-- the script's cell -/
theorem tr_sld (hx : p.tables.exec = Jvm.exec) (hb : c.code = cc) {b L : Nat} {xs : Nat → Int32} {H0 : Heap} (hX : va_X b L xs s H0) (hbl : b < H0.size) (hbA : ¬ A b) (hS : va_S A H0 H locs) {j : Nat} (hL : L < 2 ^ 31) (hj : j < L) (hdg : decode cc pc = .ok (.iaload, 1))
    (kk : W p l e R s m args below meth c H locs cells slots Q (F0 m (pc + 1) ls (.int (xs j) :: rest))) : W p l e R s m args below meth c H locs cells slots Q (F0 m pc ls (.int (nI j) :: .ref b :: rest)) := by
  refine va_sld hx hb hX hbl hbA hS (vp_in_nI hj hL) hdg ?_
  rw [nI_clamp (by omega)]
  exact kk
end TRL
section TRLX
variable {l : Launch} {D : va_G} {tys : List (ClassId × FieldType)} {y : MethodName} {bytes : ByteArray} {maxL : Nat} {ret : Option FieldType} {fr lo : Nat} {As : List Value}
variable {p : Program} {e : Env} {R : Room} {s : State} {m : MethodId} {args : Array Value} {below : List Frame} {meth : Method} {c : Code} {H : Heap} {locs : List Loc} {cells slots : Nat} {Q : State → Prop}
variable {cc : ByteArray} {pc nL n index : Nat} {ls : Array Slot} {rest st0 : List Value} {A : Nat → Prop} {own : String} {g h : Nat → Nat} {cI cZ : ClassId} {u : XW} {v : MW}
theorem tr_lawX {post : Int32 → XW → Prop} (S : CallFix p m c cc nL s args lw_all own) (hM : tr_MI l y bytes maxL ret fr lo D tr_cl tys (wX g cI cZ) (.ref (g 0) :: As) u post) (n : Nat) (hV : GoodIn lw_all (wsV own index RX0 y (ws_ y bytes maxL ret)))
    (hd : y.cls = RX0 ∧ y.cls ≠ "java/lang/invoke/MethodHandle" ∧ y.cls ≠ "java/lang/invoke/VarHandle" ∧ (parseMethodDescriptor y.desc).map (fun d => d.parameters.length) = some n) (hR : fr + 1 ≤ R.frames ∧ 8 + (maxL + 11) + lo ≤ R.locals)
    (hK : va_K D tr_cl tys s) (hP : va_P D tr_cl (wL g h cI cZ (u, v)) H) (hD : va_D A (wL g h cI cZ (u, v))) (hS : va_S A s.heap H locs) (hA : ∀ q : Nat, s.heap.size ≤ q → A q)
    (hn : As.length = n) (hl : ls.size = nL) (hst : st0 = As.reverse ++ .ref (g 0) :: rest) (hw : (rest.map fun v => v.category).sum ≤ 8) (hdg : decode cc pc = .ok (.invokevirtual index, 3)) (hf : cells ≤ R.cells ∧ slots ≤ R.slots)
    (kk : ∀ (r : Int32) (u' : XW) (H1 : Heap) (locs1 : List Loc), post r u' → va_P D tr_cl (wL g h cI cZ (u', v)) H1 → va_D A (wL g h cI cZ (u', v)) → va_S A s.heap H1 locs1 → W p l e R s m args below meth c H1 locs1 cells slots Q (F0 m (pc + 3) ls (.int r :: rest))) : W p l e R s m args below meth c H locs cells slots Q (F0 m pc ls st0) := by
  refine tr_callL (wr := wM h cI cZ v) S hM n hV hd hR hK hP hD hS hA [0, 1, 2, 3, 4, 5, 6, 7, 8, 9, 10, 11, 12, 13, 14, 15] [16, 17, 18, 19, 20, 21, 22, 23] rfl rfl (by decide) (by decide) (by decide) rfl rfl hn hl hst hw hdg hf (fun r u' H1 locs1 hp hP1 hD1 hS1 => ?_)
  exact kk r u' H1 locs1 hp (hP1.sub [8, 9, 10, 11, 12, 13, 14, 15, 16, 17, 18, 19, 20, 21, 22, 23, 0, 1, 2, 3, 4, 5, 6, 7] rfl) (hD1.sub [8, 9, 10, 11, 12, 13, 14, 15, 16, 17, 18, 19, 20, 21, 22, 23, 0, 1, 2, 3, 4, 5, 6, 7] (by decide) rfl) hS1
theorem tr_lawM {post : Int32 → MW → Prop} (S : CallFix p m c cc nL s args lw_all own) (hM : tr_MI l y bytes maxL ret fr lo D tr_cl tys (wM h cI cZ) (.ref (h 0) :: As) v post) (n : Nat) (hV : GoodIn lw_all (wsV own index RX1 y (ws_ y bytes maxL ret)))
    (hd : y.cls = RX1 ∧ y.cls ≠ "java/lang/invoke/MethodHandle" ∧ y.cls ≠ "java/lang/invoke/VarHandle" ∧ (parseMethodDescriptor y.desc).map (fun d => d.parameters.length) = some n) (hR : fr + 1 ≤ R.frames ∧ 8 + (maxL + 11) + lo ≤ R.locals)
    (hK : va_K D tr_cl tys s) (hP : va_P D tr_cl (wL g h cI cZ (u, v)) H) (hD : va_D A (wL g h cI cZ (u, v))) (hS : va_S A s.heap H locs) (hA : ∀ q : Nat, s.heap.size ≤ q → A q)
    (hn : As.length = n) (hl : ls.size = nL) (hst : st0 = As.reverse ++ .ref (h 0) :: rest) (hw : (rest.map fun v => v.category).sum ≤ 8) (hdg : decode cc pc = .ok (.invokevirtual index, 3)) (hf : cells ≤ R.cells ∧ slots ≤ R.slots)
    (kk : ∀ (r : Int32) (v' : MW) (H1 : Heap) (locs1 : List Loc), post r v' → va_P D tr_cl (wL g h cI cZ (u, v')) H1 → va_D A (wL g h cI cZ (u, v')) → va_S A s.heap H1 locs1 → W p l e R s m args below meth c H1 locs1 cells slots Q (F0 m (pc + 3) ls (.int r :: rest))) : W p l e R s m args below meth c H locs cells slots Q (F0 m pc ls st0) := by
  refine tr_callL (wr := wX g cI cZ u) S hM n hV hd hR hK hP hD hS hA [16, 17, 18, 19, 20, 21, 22, 23] [0, 1, 2, 3, 4, 5, 6, 7, 8, 9, 10, 11, 12, 13, 14, 15] rfl rfl (by decide) (by decide) (by decide) rfl rfl hn hl hst hw hdg hf (fun r v' H1 locs1 hp hP1 hD1 hS1 => ?_)
  exact kk r v' H1 locs1 hp hP1 hD1 hS1
end TRLX
theorem tr_le4 {L i : Nat} (hL : L ≤ 256) (hi : i ≤ 256) (h : ¬ nI L - nI 4 < nI i) : i + 4 ≤ L := by
  rw [Int32.lt_iff_toInt_lt, pk_sub_toInt (by omega) (by omega), nI_toInt (by omega)] at h
  omega
end
section
/-! the law walked (printed by gen/law.py) -/
set_option maxRecDepth 100000
set_option maxHeartbeats 8000000 in
theorem whole_start {p : Program} {e : Env} {s : State} {m : MethodId} {below : List Frame} {meth : Method} {c : Code} (l : Launch) {b L : Nat} {xs : Nat → Int32} (hL : L ≤ 256) (C0 : lw_At p s m meth c b L xs) : W p l e room_1 s m #[Value.ref b] below meth c s.heap [] 0 0 (lw_Z below #[Value.ref b] s) (entryFrame m ([Value.ref b] : List Value).toArray 4) := by
  obtain ⟨hx, hb, hr, hml, hown, hts0, hX, hbl, hlocks, -⟩ := C0
  have hts : ∀ w ∈ lw_all, w.before #[Value.ref b] s = true := fun w hw => hts0 w (lw_all_tbl hw)
  have S0 : CallFix p m c code 4 s #[Value.ref b] lw_all R_law := ⟨hx, hb, hml, hown, hts⟩
  obtain ⟨c0_, iS0, hKn0⟩ := u_known (C := RX0) (T := TX0) (N := 16) (n := 16) hts0 (fun w h => lw_all_tbl (in_X0 w h)) (hts _ q20)
  obtain ⟨c1_, iS1, hKn1⟩ := u_known (C := RX1) (T := TX1) (N := 9) (n := 9) hts0 (fun w h => lw_all_tbl (in_X1 w h)) (hts _ q150)
  obtain ⟨cI, kI, compI, hfI, hkI, hkindI⟩ := Cond.arrayClass_spec (hts _ q77)
  obtain ⟨cZ, kZ, compZ, hfZ, hkZ, hkindZ⟩ := Cond.arrayClass_spec (hts _ q76)
  obtain ⟨D, hD0⟩ : ∃ D : va_G, D = (fun k => if k = 0 then c0_ else c1_, fun k => if k = 0 then iS0 else iS1) := ⟨_, rfl⟩
  have hK : va_K D tr_cl (tr_ty cI cZ) s := by
    subst hD0
    constructor
    · intro k q hq
      match k, hq with
      | 0, hq => cases hq; exact hKn0
      | 1, hq => cases hq; exact hKn1
      | k + 2, hq => simp [tr_cl] at hq
    · intro k q hq
      match k, hq with
      | 0, hq => cases hq; exact ⟨fun n z => ⟨fun k h => (by cases h), kI, hkI, compI, hkindI⟩, hfI⟩
      | 1, hq => cases hq; exact ⟨fun n z => ⟨fun k h => (by cases h), kZ, hkZ, compZ, hkindZ⟩, hfZ⟩
      | k + 2, hq => simp [tr_ty] at hq
  obtain ⟨A, hAe⟩ : ∃ A : Nat → Prop, A = (fun q => s.heap.size ≤ q) := ⟨_, rfl⟩
  have hA : ∀ q : Nat, s.heap.size ≤ q → A q := fun q h => by rw [hAe]; exact h
  have hA2 : ∀ q : Nat, A q → s.heap.size ≤ q := fun q h => by rw [hAe] at h; exact h
  have hbA : ¬ A b := fun h => absurd (hA2 b h) (by omega)
  have hS : va_S A s.heap s.heap [] := va_S.rf
  have hP : va_P D tr_cl [] s.heap := fun k q hq => by simp at hq
  have hD : va_D A [] := ⟨fun i j x y hi => by simp at hi, fun k q hq => by simp at hq⟩
  have hl := lv_entry ([.ref b]) (n := 4) (Nat.le_of_ble_eq_true rfl)
  rw [lg_entry_eq]
  generalize (lg_sl ([.ref b]) ++ List.replicate (4 - (lg_sl ([.ref b])).length) Slot.unset).toArray = ls at hl ⊢
  have hl : lv_has ls 4 [(0, .ref b)] := hl
  show W p l e room_1 s m #[Value.ref b] below meth c s.heap [] 0 0 (lw_Z below #[Value.ref b] s) (F0 m 0 ls [])
  refine va_new (D := D) (ci := 0) (fs := tr_nX) (C := RX0) (T := TX0) (N := 16) hx hb hts in_X0 tyX0 tyX0_ok hown (hts _ q19) (hts _ q20) (hts _ q17) hK hP hD hS hA rfl (fun j hj => by match j, hj with | 0, _ => rfl | 1, _ => rfl | 2, _ => rfl | 3, _ => rfl | 4, _ => rfl | 5, _ => rfl | 6, _ => rfl | 7, _ => rfl | 8, _ => rfl | 9, _ => rfl | 10, _ => rfl | 11, _ => rfl | 12, _ => rfl | 13, _ => rfl | 14, _ => rfl | 15, _ => rfl | j + 16, hj => exact absurd hj (by omega)) (Nat.le_of_ble_eq_true rfl) (Nat.le_of_ble_eq_true rfl) dL_law_0 (fun qx H hP hD hS => ?_)
  have hP : va_P D tr_cl [(qx, .inr (0, tr_nX))] H := hP
  have hD : va_D A [(qx, .inr (0, tr_nX))] := hD
  refine lv_dup hx hb dL_law_3 rfl ?_
  refine tr_callC (As := []) (rest := [.ref qx]) (wr := []) S0 (tr_X_init l D cI cZ qx) 0 (lw_meth q23) q17 q21 q22 rfl (by decide +kernel) ⟨(Nat.le_of_ble_eq_true rfl), (Nat.le_of_ble_eq_true rfl)⟩ hK hP hD hS hA [0] [] rfl rfl (by decide) (by decide) (by decide) rfl hl.1 rfl (Nat.le_of_ble_eq_true rfl) dL_law_4 ⟨(Nat.le_of_ble_eq_true rfl), (Nat.le_of_ble_eq_true rfl)⟩ (fun ux H locs hwx hPx hDx hS => ?_)
  obtain ⟨g, u⟩ := ux
  obtain ⟨hg0, hRx⟩ := hwx
  dsimp only at hg0 hRx
  subst hg0
  have hP : va_P D tr_cl (wX g cI cZ u) H := hPx
  have hD : va_D A (wX g cI cZ u) := hDx
  refine lv_astore_n (lv' := [(1, .ref (g 0)), (0, .ref b)]) hx hb dL_law_7 rfl hl (by decide) rfl (fun ls hl => ?_)
  refine va_new (D := D) (ci := 1) (fs := tr_nM) (C := RX1) (T := TX1) (N := 9) hx hb hts in_X1 tyX1 tyX1_ok hown (hts _ q149) (hts _ q150) (hts _ q18) hK hP hD hS hA rfl (fun j hj => by match j, hj with | 0, _ => rfl | 1, _ => rfl | 2, _ => rfl | 3, _ => rfl | 4, _ => rfl | 5, _ => rfl | 6, _ => rfl | 7, _ => rfl | 8, _ => rfl | j + 9, hj => exact absurd hj (by omega)) (Nat.le_of_ble_eq_true rfl) (Nat.le_of_ble_eq_true rfl) dL_law_8 (fun qm H hP hD hS => ?_)
  have hP : va_P D tr_cl (wX g cI cZ u ++ [(qm, .inr (1, tr_nM))]) H := hP
  have hD : va_D A (wX g cI cZ u ++ [(qm, .inr (1, tr_nM))]) := hD
  refine lv_dup hx hb dL_law_11 rfl ?_
  refine tr_callC (As := []) (rest := [.ref qm]) (wr := wX g cI cZ u) S0 (tr_M_init l D cI cZ qm) 0 (lw_meth q153) q18 q151 q152 rfl (by decide +kernel) ⟨(Nat.le_of_ble_eq_true rfl), (Nat.le_of_ble_eq_true rfl)⟩ hK hP hD hS hA [16] [0, 1, 2, 3, 4, 5, 6, 7, 8, 9, 10, 11, 12, 13, 14, 15] rfl rfl (by decide) (by decide) (by decide) rfl hl.1 rfl (Nat.le_of_ble_eq_true rfl) dL_law_12 ⟨(Nat.le_of_ble_eq_true rfl), (Nat.le_of_ble_eq_true rfl)⟩ (fun um H locs hwm hPm hDm hS => ?_)
  obtain ⟨h, v⟩ := um
  obtain ⟨hh0, hRm⟩ := hwm
  dsimp only at hh0 hRm
  subst hh0
  have hP : va_P D tr_cl (wL g h cI cZ (u, v)) H := hPm
  have hD : va_D A (wL g h cI cZ (u, v)) := hDm
  refine lv_astore_n (lv' := [(2, .ref (h 0)), (1, .ref (g 0)), (0, .ref b)]) hx hb dL_law_15 rfl hl (by decide) rfl (fun ls hl => ?_)
  refine lv_iconst (v := nI 0) hx hb dL_law_16 (by decide +kernel) ?_
  refine lv_istore_n (lv' := [(3, .int (nI 0)), (2, .ref (h 0)), (1, .ref (g 0)), (0, .ref b)]) hx hb dL_law_17 rfl hl (by decide) rfl (fun ls hl => ?_)
  refine W.widen (k := 600000) (n := 7290000) (Nat.le_of_ble_eq_true rfl) (Nat.le_of_ble_eq_true rfl) ?_
  refine tr_loop (wv := wL g h cI cZ) (τ := Nat × TS × XW × MW) (lv := fun st => [(0, .ref b), (1, .ref (g 0)), (2, .ref (h 0)), (3, .int (nI st.1))]) (ww := fun st => st.2.2) (I := fun st => st.1 ≤ 256 ∧ tr_Inv st.2.1 ∧ RepX st.2.1 st.2.2.1 ∧ RepM st.2.1 st.2.2.2) (μ := fun st => 300 - st.1) ?_ (0, tr_S0, u, v) ⟨Nat.zero_le _, tr_Inv_0, hRx, hRm⟩ hP hD hS (lv_sub hl [3, 2, 1, 0] rfl)
  rintro ⟨i, S, u, v⟩ ⟨hi, hI, hRx, hRm⟩ ih H locs ls hP hD hS hl
  dsimp only at hi hI hRx hRm hP hD ih
  have hl : lv_has ls 4 [(0, .ref b), (1, .ref (g 0)), (2, .ref (h 0)), (3, .int (nI i))] := hl
  refine lv_iload_n hx hb dL_law_18 rfl (lv_at hl 3 rfl) ?_
  refine lv_aload_n hx hb dL_law_19 rfl (lv_at hl 0 rfl) ?_
  refine va_slen hx hb hX hbl hbA hS dL_law_20 ?_
  refine lv_iconst (v := nI 4) hx hb dL_law_21 (by decide +kernel) ?_
  refine tr_isub (z := nI L - nI 4) hx hb dL_law_22 rfl ?_
  refine lv_icmp_gt (tgt := 377) hx hb dL_law_23 (by decide) (fun c23 => ?_) (fun c23 => ?_)
  · refine lv_iconst (v := 1) hx hb dL_law_377 (by decide +kernel) ?_
    refine va_forget (fun q hq => hA2 _ (hS.2.2 q hq)) ?_
    exact lw_ret hx hb hr hlocks dL_law_378
  have hi4 := tr_le4 hL hi c23
  refine lv_aload_n hx hb dL_law_26 rfl (lv_at hl 0 rfl) ?_
  refine lv_iload_n hx hb dL_law_27 rfl (lv_at hl 3 rfl) ?_
  refine tr_sld hx hb hX hbl hbA hS (by omega) (by omega) dL_law_28 ?_
  refine lv_bipush (v := 15) hx hb dL_law_29 (by decide +kernel) ?_
  refine lv_iand hx hb dL_law_31 ?_
  obtain ⟨j, hj, ej⟩ := pk_andE (xs i) (m := 15) 4 (by decide +kernel)
  refine tr_topv ej ?_
  have back : ∀ (S2 : TS) (u2 : XW) (v2 : MW), tr_Inv S2 → RepX S2 u2 → RepM S2 v2 → ∀ (H : Heap) (locs : List Loc), va_P D tr_cl (wL g h cI cZ (u2, v2)) H → va_D A (wL g h cI cZ (u2, v2)) → va_S A s.heap H locs → W p l e room_1 s m #[Value.ref b] below meth c H locs 600000 7290000 (lw_Z below #[Value.ref b] s) (F0 m 371 ls []) := by
    intro S2 u2 v2 hI2 hRx2 hRm2 H locs hP hD hS
    refine lv_iinc (v := nI (i + 4)) (lv' := [(3, .int (nI (i + 4))), (0, .ref b), (1, .ref (g 0)), (2, .ref (h 0))]) hx hb dL_law_371 hl (k := 3) rfl (by show nI i + Int32.ofInt 4 = nI (i + 4); rw [show Int32.ofInt 4 = nI 4 from by decide +kernel]; exact nI_add i 4) (by decide) rfl (fun ls hl => ?_)
    refine lv_goto (tgt := 18) hx hb dL_law_374 (by decide) ?_
    exact ih (i + 4, S2, u2, v2) ⟨by dsimp only; omega, hI2, hRx2, hRm2⟩ (by dsimp only; omega) H locs ls hP hD hS (lv_sub hl [1, 2, 3, 0] rfl)
  have hjc : j = 0 ∨ j = 1 ∨ j = 2 ∨ j = 3 ∨ j = 4 ∨ j = 5 ∨ j = 6 ∨ j = 7 ∨ j = 8 ∨ 9 ≤ j := by omega
  rcases hjc with e | e | e | e | e | e | e | e | e | e
  · subst e
    refine lv_tableIn (off := 52) (tgt := 84) hx hb dL_law_32 (by decide +kernel) (by decide +kernel) (by decide +kernel) (by decide) ?_
    refine lv_aload_n hx hb dL_law_84 rfl (lv_at hl 1 rfl) ?_
    refine lv_aload_n hx hb dL_law_85 rfl (lv_at hl 0 rfl) ?_
    refine lv_iload_n hx hb dL_law_86 rfl (lv_at hl 3 rfl) ?_
    refine lv_iconst (v := nI 1) hx hb dL_law_87 (by decide +kernel) ?_
    refine tr_iadd (z := nI (i + 1)) hx hb dL_law_88 (nI_add _ _) ?_
    refine tr_sld hx hb hX hbl hbA hS (by omega) (by omega) dL_law_89 ?_
    refine lv_aload_n hx hb dL_law_90 rfl (lv_at hl 0 rfl) ?_
    refine lv_iload_n hx hb dL_law_91 rfl (lv_at hl 3 rfl) ?_
    refine lv_iconst (v := nI 2) hx hb dL_law_92 (by decide +kernel) ?_
    refine tr_iadd (z := nI (i + 2)) hx hb dL_law_93 (nI_add _ _) ?_
    refine tr_sld hx hb hX hbl hbA hS (by omega) (by omega) dL_law_94 ?_
    refine lv_aload_n hx hb dL_law_95 rfl (lv_at hl 0 rfl) ?_
    refine lv_iload_n hx hb dL_law_96 rfl (lv_at hl 3 rfl) ?_
    refine lv_iconst (v := nI 3) hx hb dL_law_97 (by decide +kernel) ?_
    refine tr_iadd (z := nI (i + 3)) hx hb dL_law_98 (nI_add _ _) ?_
    refine tr_sld hx hb hX hbl hbA hS (by omega) (by omega) dL_law_99 ?_
    refine tr_lawX (As := [.int (xs (i + 1)), .int (xs (i + 2)), .int (xs (i + 3))]) (rest := []) S0 (tr_X_insert l D g cI cZ S u hRx hI (xs (i + 1)) (xs (i + 2)) (xs (i + 3))) 3 (lw_V q78 q79 q80 q17 q81) (by decide +kernel) ⟨(Nat.le_of_ble_eq_true rfl), (Nat.le_of_ble_eq_true rfl)⟩ hK hP hD hS hA rfl hl.1 rfl (Nat.le_of_ble_eq_true rfl) dL_law_100 ⟨(Nat.le_of_ble_eq_true rfl), (Nat.le_of_ble_eq_true rfl)⟩ (fun r1 u2 H locs hw1 hP hD hS => ?_)
    refine lv_aload_n hx hb dL_law_103 rfl (lv_at hl 2 rfl) ?_
    refine lv_aload_n hx hb dL_law_104 rfl (lv_at hl 0 rfl) ?_
    refine lv_iload_n hx hb dL_law_105 rfl (lv_at hl 3 rfl) ?_
    refine lv_iconst (v := nI 1) hx hb dL_law_106 (by decide +kernel) ?_
    refine tr_iadd (z := nI (i + 1)) hx hb dL_law_107 (nI_add _ _) ?_
    refine tr_sld hx hb hX hbl hbA hS (by omega) (by omega) dL_law_108 ?_
    refine lv_aload_n hx hb dL_law_109 rfl (lv_at hl 0 rfl) ?_
    refine lv_iload_n hx hb dL_law_110 rfl (lv_at hl 3 rfl) ?_
    refine lv_iconst (v := nI 2) hx hb dL_law_111 (by decide +kernel) ?_
    refine tr_iadd (z := nI (i + 2)) hx hb dL_law_112 (nI_add _ _) ?_
    refine tr_sld hx hb hX hbl hbA hS (by omega) (by omega) dL_law_113 ?_
    refine lv_aload_n hx hb dL_law_114 rfl (lv_at hl 0 rfl) ?_
    refine lv_iload_n hx hb dL_law_115 rfl (lv_at hl 3 rfl) ?_
    refine lv_iconst (v := nI 3) hx hb dL_law_116 (by decide +kernel) ?_
    refine tr_iadd (z := nI (i + 3)) hx hb dL_law_117 (nI_add _ _) ?_
    refine tr_sld hx hb hX hbl hbA hS (by omega) (by omega) dL_law_118 ?_
    refine tr_lawM (As := [.int (xs (i + 1)), .int (xs (i + 2)), .int (xs (i + 3))]) (rest := [.int r1]) S0 (tr_M_insert l D h cI cZ S v hRm hI (xs (i + 1)) (xs (i + 2)) (xs (i + 3))) 3 (lw_V q183 q184 q185 q18 q186) (by decide +kernel) ⟨(Nat.le_of_ble_eq_true rfl), (Nat.le_of_ble_eq_true rfl)⟩ hK hP hD hS hA rfl hl.1 rfl (Nat.le_of_ble_eq_true rfl) dL_law_119 ⟨(Nat.le_of_ble_eq_true rfl), (Nat.le_of_ble_eq_true rfl)⟩ (fun r2 v2 H locs hw2 hP hD hS => ?_)
    have e1 := hw1.1
    have hRx2 := hw1.2
    have e2 := hw2.1
    have hRm2 := hw2.2
    refine lv_icmp_eq (tgt := 371) hx hb dL_law_122 (by decide) (fun _ => ?_) (fun hne => absurd (e1.trans e2.symm) hne)
    exact back (tr_insA S (xs (i + 1)) (xs (i + 2)) (xs (i + 3))).2 u2 v2 (tr_insA_inv hI (xs (i + 1)) (xs (i + 2)) (xs (i + 3))) hRx2 hRm2 H locs hP hD hS
  · subst e
    refine lv_tableIn (off := 95) (tgt := 127) hx hb dL_law_32 (by decide +kernel) (by decide +kernel) (by decide +kernel) (by decide) ?_
    refine lv_aload_n hx hb dL_law_127 rfl (lv_at hl 1 rfl) ?_
    refine lv_aload_n hx hb dL_law_128 rfl (lv_at hl 0 rfl) ?_
    refine lv_iload_n hx hb dL_law_129 rfl (lv_at hl 3 rfl) ?_
    refine lv_iconst (v := nI 1) hx hb dL_law_130 (by decide +kernel) ?_
    refine tr_iadd (z := nI (i + 1)) hx hb dL_law_131 (nI_add _ _) ?_
    refine tr_sld hx hb hX hbl hbA hS (by omega) (by omega) dL_law_132 ?_
    refine lv_aload_n hx hb dL_law_133 rfl (lv_at hl 0 rfl) ?_
    refine lv_iload_n hx hb dL_law_134 rfl (lv_at hl 3 rfl) ?_
    refine lv_iconst (v := nI 2) hx hb dL_law_135 (by decide +kernel) ?_
    refine tr_iadd (z := nI (i + 2)) hx hb dL_law_136 (nI_add _ _) ?_
    refine tr_sld hx hb hX hbl hbA hS (by omega) (by omega) dL_law_137 ?_
    refine tr_lawX (As := [.int (xs (i + 1)), .int (xs (i + 2))]) (rest := []) S0 (tr_X_delete l D g cI cZ S u hRx hI (xs (i + 1)) (xs (i + 2))) 2 (lw_V q109 q110 q111 q17 q112) (by decide +kernel) ⟨(Nat.le_of_ble_eq_true rfl), (Nat.le_of_ble_eq_true rfl)⟩ hK hP hD hS hA rfl hl.1 rfl (Nat.le_of_ble_eq_true rfl) dL_law_138 ⟨(Nat.le_of_ble_eq_true rfl), (Nat.le_of_ble_eq_true rfl)⟩ (fun r1 u2 H locs hw1 hP hD hS => ?_)
    refine lv_aload_n hx hb dL_law_141 rfl (lv_at hl 2 rfl) ?_
    refine lv_aload_n hx hb dL_law_142 rfl (lv_at hl 0 rfl) ?_
    refine lv_iload_n hx hb dL_law_143 rfl (lv_at hl 3 rfl) ?_
    refine lv_iconst (v := nI 1) hx hb dL_law_144 (by decide +kernel) ?_
    refine tr_iadd (z := nI (i + 1)) hx hb dL_law_145 (nI_add _ _) ?_
    refine tr_sld hx hb hX hbl hbA hS (by omega) (by omega) dL_law_146 ?_
    refine lv_aload_n hx hb dL_law_147 rfl (lv_at hl 0 rfl) ?_
    refine lv_iload_n hx hb dL_law_148 rfl (lv_at hl 3 rfl) ?_
    refine lv_iconst (v := nI 2) hx hb dL_law_149 (by decide +kernel) ?_
    refine tr_iadd (z := nI (i + 2)) hx hb dL_law_150 (nI_add _ _) ?_
    refine tr_sld hx hb hX hbl hbA hS (by omega) (by omega) dL_law_151 ?_
    refine tr_lawM (As := [.int (xs (i + 1)), .int (xs (i + 2))]) (rest := [.int r1]) S0 (tr_M_delete l D h cI cZ S v hRm hI (xs (i + 1)) (xs (i + 2))) 2 (lw_V q226 q227 q228 q18 q229) (by decide +kernel) ⟨(Nat.le_of_ble_eq_true rfl), (Nat.le_of_ble_eq_true rfl)⟩ hK hP hD hS hA rfl hl.1 rfl (Nat.le_of_ble_eq_true rfl) dL_law_152 ⟨(Nat.le_of_ble_eq_true rfl), (Nat.le_of_ble_eq_true rfl)⟩ (fun r2 v2 H locs hw2 hP hD hS => ?_)
    have e1 := hw1.1
    have hRx2 := hw1.2
    have e2 := hw2.1
    have hRm2 := hw2.2
    refine lv_icmp_eq (tgt := 371) hx hb dL_law_155 (by decide) (fun _ => ?_) (fun hne => absurd (e1.trans e2.symm) hne)
    exact back (tr_delA S (xs (i + 1)) (xs (i + 2))).2 u2 v2 (tr_delA_inv hI (xs (i + 1)) (xs (i + 2))) hRx2 hRm2 H locs hP hD hS
  · subst e
    refine lv_tableIn (off := 128) (tgt := 160) hx hb dL_law_32 (by decide +kernel) (by decide +kernel) (by decide +kernel) (by decide) ?_
    refine lv_aload_n hx hb dL_law_160 rfl (lv_at hl 1 rfl) ?_
    refine lv_aload_n hx hb dL_law_161 rfl (lv_at hl 0 rfl) ?_
    refine lv_iload_n hx hb dL_law_162 rfl (lv_at hl 3 rfl) ?_
    refine lv_iconst (v := nI 1) hx hb dL_law_163 (by decide +kernel) ?_
    refine tr_iadd (z := nI (i + 1)) hx hb dL_law_164 (nI_add _ _) ?_
    refine tr_sld hx hb hX hbl hbA hS (by omega) (by omega) dL_law_165 ?_
    refine lv_aload_n hx hb dL_law_166 rfl (lv_at hl 0 rfl) ?_
    refine lv_iload_n hx hb dL_law_167 rfl (lv_at hl 3 rfl) ?_
    refine lv_iconst (v := nI 2) hx hb dL_law_168 (by decide +kernel) ?_
    refine tr_iadd (z := nI (i + 2)) hx hb dL_law_169 (nI_add _ _) ?_
    refine tr_sld hx hb hX hbl hbA hS (by omega) (by omega) dL_law_170 ?_
    refine tr_lawX (As := [.int (xs (i + 1)), .int (xs (i + 2))]) (rest := []) S0 (tr_X_deliver l D g cI cZ S u hRx hI (xs (i + 1)) (xs (i + 2))) 2 (lw_V q113 q114 q115 q17 q116) (by decide +kernel) ⟨(Nat.le_of_ble_eq_true rfl), (Nat.le_of_ble_eq_true rfl)⟩ hK hP hD hS hA rfl hl.1 rfl (Nat.le_of_ble_eq_true rfl) dL_law_171 ⟨(Nat.le_of_ble_eq_true rfl), (Nat.le_of_ble_eq_true rfl)⟩ (fun r1 u2 H locs hw1 hP hD hS => ?_)
    refine lv_aload_n hx hb dL_law_174 rfl (lv_at hl 2 rfl) ?_
    refine lv_aload_n hx hb dL_law_175 rfl (lv_at hl 0 rfl) ?_
    refine lv_iload_n hx hb dL_law_176 rfl (lv_at hl 3 rfl) ?_
    refine lv_iconst (v := nI 1) hx hb dL_law_177 (by decide +kernel) ?_
    refine tr_iadd (z := nI (i + 1)) hx hb dL_law_178 (nI_add _ _) ?_
    refine tr_sld hx hb hX hbl hbA hS (by omega) (by omega) dL_law_179 ?_
    refine lv_aload_n hx hb dL_law_180 rfl (lv_at hl 0 rfl) ?_
    refine lv_iload_n hx hb dL_law_181 rfl (lv_at hl 3 rfl) ?_
    refine lv_iconst (v := nI 2) hx hb dL_law_182 (by decide +kernel) ?_
    refine tr_iadd (z := nI (i + 2)) hx hb dL_law_183 (nI_add _ _) ?_
    refine tr_sld hx hb hX hbl hbA hS (by omega) (by omega) dL_law_184 ?_
    refine tr_lawM (As := [.int (xs (i + 1)), .int (xs (i + 2))]) (rest := [.int r1]) S0 (tr_M_deliver l D h cI cZ S v hRm hI (xs (i + 1)) (xs (i + 2))) 2 (lw_V q230 q231 q232 q18 q233) (by decide +kernel) ⟨(Nat.le_of_ble_eq_true rfl), (Nat.le_of_ble_eq_true rfl)⟩ hK hP hD hS hA rfl hl.1 rfl (Nat.le_of_ble_eq_true rfl) dL_law_185 ⟨(Nat.le_of_ble_eq_true rfl), (Nat.le_of_ble_eq_true rfl)⟩ (fun r2 v2 H locs hw2 hP hD hS => ?_)
    have e1 := hw1.1
    have hRx2 := hw1.2
    have e2 := hw2.1
    have hRm2 := hw2.2
    refine lv_icmp_eq (tgt := 371) hx hb dL_law_188 (by decide) (fun _ => ?_) (fun hne => absurd (e1.trans e2.symm) hne)
    exact back (tr_dlvA S (xs (i + 1)) (xs (i + 2))).2 u2 v2 (tr_dlvA_inv hI (xs (i + 1)) (xs (i + 2))) hRx2 hRm2 H locs hP hD hS
  · subst e
    refine lv_tableIn (off := 161) (tgt := 193) hx hb dL_law_32 (by decide +kernel) (by decide +kernel) (by decide +kernel) (by decide) ?_
    refine lv_aload_n hx hb dL_law_193 rfl (lv_at hl 1 rfl) ?_
    refine lv_aload_n hx hb dL_law_194 rfl (lv_at hl 0 rfl) ?_
    refine lv_iload_n hx hb dL_law_195 rfl (lv_at hl 3 rfl) ?_
    refine lv_iconst (v := nI 1) hx hb dL_law_196 (by decide +kernel) ?_
    refine tr_iadd (z := nI (i + 1)) hx hb dL_law_197 (nI_add _ _) ?_
    refine tr_sld hx hb hX hbl hbA hS (by omega) (by omega) dL_law_198 ?_
    refine lv_aload_n hx hb dL_law_199 rfl (lv_at hl 0 rfl) ?_
    refine lv_iload_n hx hb dL_law_200 rfl (lv_at hl 3 rfl) ?_
    refine lv_iconst (v := nI 2) hx hb dL_law_201 (by decide +kernel) ?_
    refine tr_iadd (z := nI (i + 2)) hx hb dL_law_202 (nI_add _ _) ?_
    refine tr_sld hx hb hX hbl hbA hS (by omega) (by omega) dL_law_203 ?_
    refine tr_lawX (As := [.int (xs (i + 1)), .int (xs (i + 2))]) (rest := []) S0 (tr_X_sync l D g cI cZ S u hRx hI (xs (i + 1)) (xs (i + 2))) 2 (lw_V q121 q122 q123 q17 q124) (by decide +kernel) ⟨(Nat.le_of_ble_eq_true rfl), (Nat.le_of_ble_eq_true rfl)⟩ hK hP hD hS hA rfl hl.1 rfl (Nat.le_of_ble_eq_true rfl) dL_law_204 ⟨(Nat.le_of_ble_eq_true rfl), (Nat.le_of_ble_eq_true rfl)⟩ (fun r1 u2 H locs hw1 hP hD hS => ?_)
    refine lv_aload_n hx hb dL_law_207 rfl (lv_at hl 2 rfl) ?_
    refine lv_aload_n hx hb dL_law_208 rfl (lv_at hl 0 rfl) ?_
    refine lv_iload_n hx hb dL_law_209 rfl (lv_at hl 3 rfl) ?_
    refine lv_iconst (v := nI 1) hx hb dL_law_210 (by decide +kernel) ?_
    refine tr_iadd (z := nI (i + 1)) hx hb dL_law_211 (nI_add _ _) ?_
    refine tr_sld hx hb hX hbl hbA hS (by omega) (by omega) dL_law_212 ?_
    refine lv_aload_n hx hb dL_law_213 rfl (lv_at hl 0 rfl) ?_
    refine lv_iload_n hx hb dL_law_214 rfl (lv_at hl 3 rfl) ?_
    refine lv_iconst (v := nI 2) hx hb dL_law_215 (by decide +kernel) ?_
    refine tr_iadd (z := nI (i + 2)) hx hb dL_law_216 (nI_add _ _) ?_
    refine tr_sld hx hb hX hbl hbA hS (by omega) (by omega) dL_law_217 ?_
    refine tr_lawM (As := [.int (xs (i + 1)), .int (xs (i + 2))]) (rest := [.int r1]) S0 (tr_M_sync l D h cI cZ S v hRm hI (xs (i + 1)) (xs (i + 2))) 2 (lw_V q234 q235 q236 q18 q237) (by decide +kernel) ⟨(Nat.le_of_ble_eq_true rfl), (Nat.le_of_ble_eq_true rfl)⟩ hK hP hD hS hA rfl hl.1 rfl (Nat.le_of_ble_eq_true rfl) dL_law_218 ⟨(Nat.le_of_ble_eq_true rfl), (Nat.le_of_ble_eq_true rfl)⟩ (fun r2 v2 H locs hw2 hP hD hS => ?_)
    have e1 := hw1.1
    have hRx2 := hw1.2
    have e2 := hw2.1
    have hRm2 := hw2.2
    refine lv_icmp_eq (tgt := 371) hx hb dL_law_221 (by decide) (fun _ => ?_) (fun hne => absurd (e1.trans e2.symm) hne)
    exact back (tr_synA S (xs (i + 1)) (xs (i + 2))).2 u2 v2 (tr_synA_inv hI (xs (i + 1)) (xs (i + 2))) hRx2 hRm2 H locs hP hD hS
  · subst e
    refine lv_tableIn (off := 194) (tgt := 226) hx hb dL_law_32 (by decide +kernel) (by decide +kernel) (by decide +kernel) (by decide) ?_
    refine lv_aload_n hx hb dL_law_226 rfl (lv_at hl 1 rfl) ?_
    refine lv_aload_n hx hb dL_law_227 rfl (lv_at hl 0 rfl) ?_
    refine lv_iload_n hx hb dL_law_228 rfl (lv_at hl 3 rfl) ?_
    refine lv_iconst (v := nI 1) hx hb dL_law_229 (by decide +kernel) ?_
    refine tr_iadd (z := nI (i + 1)) hx hb dL_law_230 (nI_add _ _) ?_
    refine tr_sld hx hb hX hbl hbA hS (by omega) (by omega) dL_law_231 ?_
    refine tr_lawX (As := [.int (xs (i + 1))]) (rest := []) S0 (tr_X_length l D g cI cZ S u hRx hI (xs (i + 1))) 1 (lw_V q125 q126 q127 q17 q128) (by decide +kernel) ⟨(Nat.le_of_ble_eq_true rfl), (Nat.le_of_ble_eq_true rfl)⟩ hK hP hD hS hA rfl hl.1 rfl (Nat.le_of_ble_eq_true rfl) dL_law_232 ⟨(Nat.le_of_ble_eq_true rfl), (Nat.le_of_ble_eq_true rfl)⟩ (fun r1 u2 H locs hw1 hP hD hS => ?_)
    refine lv_aload_n hx hb dL_law_235 rfl (lv_at hl 2 rfl) ?_
    refine lv_aload_n hx hb dL_law_236 rfl (lv_at hl 0 rfl) ?_
    refine lv_iload_n hx hb dL_law_237 rfl (lv_at hl 3 rfl) ?_
    refine lv_iconst (v := nI 1) hx hb dL_law_238 (by decide +kernel) ?_
    refine tr_iadd (z := nI (i + 1)) hx hb dL_law_239 (nI_add _ _) ?_
    refine tr_sld hx hb hX hbl hbA hS (by omega) (by omega) dL_law_240 ?_
    refine tr_lawM (As := [.int (xs (i + 1))]) (rest := [.int r1]) S0 (tr_M_length l D h cI cZ S v hRm hI (xs (i + 1))) 1 (lw_V q238 q223 q224 q18 q225) (by decide +kernel) ⟨(Nat.le_of_ble_eq_true rfl), (Nat.le_of_ble_eq_true rfl)⟩ hK hP hD hS hA rfl hl.1 rfl (Nat.le_of_ble_eq_true rfl) dL_law_241 ⟨(Nat.le_of_ble_eq_true rfl), (Nat.le_of_ble_eq_true rfl)⟩ (fun r2 v2 H locs hw2 hP hD hS => ?_)
    have e1 := hw1.2
    have hRx2 : RepX S u2 := by rw [hw1.1]; exact hRx
    have e2 := hw2.1
    have hRm2 : RepM S v2 := hw2.2
    refine lv_icmp_eq (tgt := 371) hx hb dL_law_244 (by decide) (fun _ => ?_) (fun hne => absurd (e1.trans e2.symm) hne)
    exact back S u2 v2 hI hRx2 hRm2 H locs hP hD hS
  · subst e
    refine lv_tableIn (off := 217) (tgt := 249) hx hb dL_law_32 (by decide +kernel) (by decide +kernel) (by decide +kernel) (by decide) ?_
    refine lv_aload_n hx hb dL_law_249 rfl (lv_at hl 1 rfl) ?_
    refine lv_aload_n hx hb dL_law_250 rfl (lv_at hl 0 rfl) ?_
    refine lv_iload_n hx hb dL_law_251 rfl (lv_at hl 3 rfl) ?_
    refine lv_iconst (v := nI 1) hx hb dL_law_252 (by decide +kernel) ?_
    refine tr_iadd (z := nI (i + 1)) hx hb dL_law_253 (nI_add _ _) ?_
    refine tr_sld hx hb hX hbl hbA hS (by omega) (by omega) dL_law_254 ?_
    refine lv_aload_n hx hb dL_law_255 rfl (lv_at hl 0 rfl) ?_
    refine lv_iload_n hx hb dL_law_256 rfl (lv_at hl 3 rfl) ?_
    refine lv_iconst (v := nI 2) hx hb dL_law_257 (by decide +kernel) ?_
    refine tr_iadd (z := nI (i + 2)) hx hb dL_law_258 (nI_add _ _) ?_
    refine tr_sld hx hb hX hbl hbA hS (by omega) (by omega) dL_law_259 ?_
    refine tr_lawX (As := [.int (xs (i + 1)), .int (xs (i + 2))]) (rest := []) S0 (tr_X_letter l D g cI cZ S u hRx hI (xs (i + 1)) (xs (i + 2))) 2 (lw_V q129 q130 q131 q17 q132) (by decide +kernel) ⟨(Nat.le_of_ble_eq_true rfl), (Nat.le_of_ble_eq_true rfl)⟩ hK hP hD hS hA rfl hl.1 rfl (Nat.le_of_ble_eq_true rfl) dL_law_260 ⟨(Nat.le_of_ble_eq_true rfl), (Nat.le_of_ble_eq_true rfl)⟩ (fun r1 u2 H locs hw1 hP hD hS => ?_)
    refine lv_aload_n hx hb dL_law_263 rfl (lv_at hl 2 rfl) ?_
    refine lv_aload_n hx hb dL_law_264 rfl (lv_at hl 0 rfl) ?_
    refine lv_iload_n hx hb dL_law_265 rfl (lv_at hl 3 rfl) ?_
    refine lv_iconst (v := nI 1) hx hb dL_law_266 (by decide +kernel) ?_
    refine tr_iadd (z := nI (i + 1)) hx hb dL_law_267 (nI_add _ _) ?_
    refine tr_sld hx hb hX hbl hbA hS (by omega) (by omega) dL_law_268 ?_
    refine lv_aload_n hx hb dL_law_269 rfl (lv_at hl 0 rfl) ?_
    refine lv_iload_n hx hb dL_law_270 rfl (lv_at hl 3 rfl) ?_
    refine lv_iconst (v := nI 2) hx hb dL_law_271 (by decide +kernel) ?_
    refine tr_iadd (z := nI (i + 2)) hx hb dL_law_272 (nI_add _ _) ?_
    refine tr_sld hx hb hX hbl hbA hS (by omega) (by omega) dL_law_273 ?_
    refine tr_lawM (As := [.int (xs (i + 1)), .int (xs (i + 2))]) (rest := [.int r1]) S0 (tr_M_letter l D h cI cZ S v hRm hI (xs (i + 1)) (xs (i + 2))) 2 (lw_V q239 q240 q241 q18 q242) (by decide +kernel) ⟨(Nat.le_of_ble_eq_true rfl), (Nat.le_of_ble_eq_true rfl)⟩ hK hP hD hS hA rfl hl.1 rfl (Nat.le_of_ble_eq_true rfl) dL_law_274 ⟨(Nat.le_of_ble_eq_true rfl), (Nat.le_of_ble_eq_true rfl)⟩ (fun r2 v2 H locs hw2 hP hD hS => ?_)
    have e1 := hw1.2
    have hRx2 : RepX S u2 := by rw [hw1.1]; exact hRx
    have e2 := hw2.1
    have hRm2 : RepM S v2 := hw2.2
    refine lv_icmp_eq (tgt := 371) hx hb dL_law_277 (by decide) (fun _ => ?_) (fun hne => absurd (e1.trans e2.symm) hne)
    exact back S u2 v2 hI hRx2 hRm2 H locs hP hD hS
  · subst e
    refine lv_tableIn (off := 250) (tgt := 282) hx hb dL_law_32 (by decide +kernel) (by decide +kernel) (by decide +kernel) (by decide) ?_
    refine lv_aload_n hx hb dL_law_282 rfl (lv_at hl 1 rfl) ?_
    refine lv_aload_n hx hb dL_law_283 rfl (lv_at hl 0 rfl) ?_
    refine lv_iload_n hx hb dL_law_284 rfl (lv_at hl 3 rfl) ?_
    refine lv_iconst (v := nI 1) hx hb dL_law_285 (by decide +kernel) ?_
    refine tr_iadd (z := nI (i + 1)) hx hb dL_law_286 (nI_add _ _) ?_
    refine tr_sld hx hb hX hbl hbA hS (by omega) (by omega) dL_law_287 ?_
    refine tr_lawX (As := [.int (xs (i + 1))]) (rest := []) S0 (tr_X_row l D g cI cZ S u hRx hI (xs (i + 1))) 1 (lw_V q133 q134 q135 q17 q136) (by decide +kernel) ⟨(Nat.le_of_ble_eq_true rfl), (Nat.le_of_ble_eq_true rfl)⟩ hK hP hD hS hA rfl hl.1 rfl (Nat.le_of_ble_eq_true rfl) dL_law_288 ⟨(Nat.le_of_ble_eq_true rfl), (Nat.le_of_ble_eq_true rfl)⟩ (fun r1 u2 H locs hw1 hP hD hS => ?_)
    refine lv_aload_n hx hb dL_law_291 rfl (lv_at hl 2 rfl) ?_
    refine lv_aload_n hx hb dL_law_292 rfl (lv_at hl 0 rfl) ?_
    refine lv_iload_n hx hb dL_law_293 rfl (lv_at hl 3 rfl) ?_
    refine lv_iconst (v := nI 1) hx hb dL_law_294 (by decide +kernel) ?_
    refine tr_iadd (z := nI (i + 1)) hx hb dL_law_295 (nI_add _ _) ?_
    refine tr_sld hx hb hX hbl hbA hS (by omega) (by omega) dL_law_296 ?_
    refine tr_lawM (As := [.int (xs (i + 1))]) (rest := [.int r1]) S0 (tr_M_row l D h cI cZ S v hRm hI (xs (i + 1))) 1 (lw_V q243 q244 q245 q18 q246) (by decide +kernel) ⟨(Nat.le_of_ble_eq_true rfl), (Nat.le_of_ble_eq_true rfl)⟩ hK hP hD hS hA rfl hl.1 rfl (Nat.le_of_ble_eq_true rfl) dL_law_297 ⟨(Nat.le_of_ble_eq_true rfl), (Nat.le_of_ble_eq_true rfl)⟩ (fun r2 v2 H locs hw2 hP hD hS => ?_)
    have e1 := hw1.2
    have hRx2 : RepX S u2 := by rw [hw1.1]; exact hRx
    have e2 := hw2.2
    have hRm2 : RepM S v2 := by rw [hw2.1]; exact hRm
    refine lv_icmp_eq (tgt := 371) hx hb dL_law_300 (by decide) (fun _ => ?_) (fun hne => absurd (e1.trans e2.symm) hne)
    exact back S u2 v2 hI hRx2 hRm2 H locs hP hD hS
  · subst e
    refine lv_tableIn (off := 273) (tgt := 305) hx hb dL_law_32 (by decide +kernel) (by decide +kernel) (by decide +kernel) (by decide) ?_
    refine lv_aload_n hx hb dL_law_305 rfl (lv_at hl 1 rfl) ?_
    refine lv_aload_n hx hb dL_law_306 rfl (lv_at hl 0 rfl) ?_
    refine lv_iload_n hx hb dL_law_307 rfl (lv_at hl 3 rfl) ?_
    refine lv_iconst (v := nI 1) hx hb dL_law_308 (by decide +kernel) ?_
    refine tr_iadd (z := nI (i + 1)) hx hb dL_law_309 (nI_add _ _) ?_
    refine tr_sld hx hb hX hbl hbA hS (by omega) (by omega) dL_law_310 ?_
    refine lv_aload_n hx hb dL_law_311 rfl (lv_at hl 0 rfl) ?_
    refine lv_iload_n hx hb dL_law_312 rfl (lv_at hl 3 rfl) ?_
    refine lv_iconst (v := nI 2) hx hb dL_law_313 (by decide +kernel) ?_
    refine tr_iadd (z := nI (i + 2)) hx hb dL_law_314 (nI_add _ _) ?_
    refine tr_sld hx hb hX hbl hbA hS (by omega) (by omega) dL_law_315 ?_
    refine tr_lawX (As := [.int (xs (i + 1)), .int (xs (i + 2))]) (rest := []) S0 (tr_X_known l D g cI cZ S u hRx hI (xs (i + 1)) (xs (i + 2))) 2 (lw_V q137 q138 q139 q17 q140) (by decide +kernel) ⟨(Nat.le_of_ble_eq_true rfl), (Nat.le_of_ble_eq_true rfl)⟩ hK hP hD hS hA rfl hl.1 rfl (Nat.le_of_ble_eq_true rfl) dL_law_316 ⟨(Nat.le_of_ble_eq_true rfl), (Nat.le_of_ble_eq_true rfl)⟩ (fun r1 u2 H locs hw1 hP hD hS => ?_)
    refine lv_aload_n hx hb dL_law_319 rfl (lv_at hl 2 rfl) ?_
    refine lv_aload_n hx hb dL_law_320 rfl (lv_at hl 0 rfl) ?_
    refine lv_iload_n hx hb dL_law_321 rfl (lv_at hl 3 rfl) ?_
    refine lv_iconst (v := nI 1) hx hb dL_law_322 (by decide +kernel) ?_
    refine tr_iadd (z := nI (i + 1)) hx hb dL_law_323 (nI_add _ _) ?_
    refine tr_sld hx hb hX hbl hbA hS (by omega) (by omega) dL_law_324 ?_
    refine lv_aload_n hx hb dL_law_325 rfl (lv_at hl 0 rfl) ?_
    refine lv_iload_n hx hb dL_law_326 rfl (lv_at hl 3 rfl) ?_
    refine lv_iconst (v := nI 2) hx hb dL_law_327 (by decide +kernel) ?_
    refine tr_iadd (z := nI (i + 2)) hx hb dL_law_328 (nI_add _ _) ?_
    refine tr_sld hx hb hX hbl hbA hS (by omega) (by omega) dL_law_329 ?_
    refine tr_lawM (As := [.int (xs (i + 1)), .int (xs (i + 2))]) (rest := [.int r1]) S0 (tr_M_known l D h cI cZ S v hRm hI (xs (i + 1)) (xs (i + 2))) 2 (lw_V q247 q248 q249 q18 q250) (by decide +kernel) ⟨(Nat.le_of_ble_eq_true rfl), (Nat.le_of_ble_eq_true rfl)⟩ hK hP hD hS hA rfl hl.1 rfl (Nat.le_of_ble_eq_true rfl) dL_law_330 ⟨(Nat.le_of_ble_eq_true rfl), (Nat.le_of_ble_eq_true rfl)⟩ (fun r2 v2 H locs hw2 hP hD hS => ?_)
    have e1 := hw1.2
    have hRx2 : RepX S u2 := by rw [hw1.1]; exact hRx
    have e2 := hw2.2
    have hRm2 : RepM S v2 := by rw [hw2.1]; exact hRm
    refine lv_icmp_eq (tgt := 371) hx hb dL_law_333 (by decide) (fun _ => ?_) (fun hne => absurd (e1.trans e2.symm) hne)
    exact back S u2 v2 hI hRx2 hRm2 H locs hP hD hS
  · subst e
    refine lv_tableIn (off := 306) (tgt := 338) hx hb dL_law_32 (by decide +kernel) (by decide +kernel) (by decide +kernel) (by decide) ?_
    refine lv_aload_n hx hb dL_law_338 rfl (lv_at hl 1 rfl) ?_
    refine lv_aload_n hx hb dL_law_339 rfl (lv_at hl 0 rfl) ?_
    refine lv_iload_n hx hb dL_law_340 rfl (lv_at hl 3 rfl) ?_
    refine lv_iconst (v := nI 1) hx hb dL_law_341 (by decide +kernel) ?_
    refine tr_iadd (z := nI (i + 1)) hx hb dL_law_342 (nI_add _ _) ?_
    refine tr_sld hx hb hX hbl hbA hS (by omega) (by omega) dL_law_343 ?_
    refine lv_aload_n hx hb dL_law_344 rfl (lv_at hl 0 rfl) ?_
    refine lv_iload_n hx hb dL_law_345 rfl (lv_at hl 3 rfl) ?_
    refine lv_iconst (v := nI 2) hx hb dL_law_346 (by decide +kernel) ?_
    refine tr_iadd (z := nI (i + 2)) hx hb dL_law_347 (nI_add _ _) ?_
    refine tr_sld hx hb hX hbl hbA hS (by omega) (by omega) dL_law_348 ?_
    refine tr_lawX (As := [.int (xs (i + 1)), .int (xs (i + 2))]) (rest := []) S0 (tr_X_alike l D g cI cZ S u hRx hI (xs (i + 1)) (xs (i + 2))) 2 (lw_V q141 q142 q143 q17 q144) (by decide +kernel) ⟨(Nat.le_of_ble_eq_true rfl), (Nat.le_of_ble_eq_true rfl)⟩ hK hP hD hS hA rfl hl.1 rfl (Nat.le_of_ble_eq_true rfl) dL_law_349 ⟨(Nat.le_of_ble_eq_true rfl), (Nat.le_of_ble_eq_true rfl)⟩ (fun r1 u2 H locs hw1 hP hD hS => ?_)
    refine lv_aload_n hx hb dL_law_352 rfl (lv_at hl 2 rfl) ?_
    refine lv_aload_n hx hb dL_law_353 rfl (lv_at hl 0 rfl) ?_
    refine lv_iload_n hx hb dL_law_354 rfl (lv_at hl 3 rfl) ?_
    refine lv_iconst (v := nI 1) hx hb dL_law_355 (by decide +kernel) ?_
    refine tr_iadd (z := nI (i + 1)) hx hb dL_law_356 (nI_add _ _) ?_
    refine tr_sld hx hb hX hbl hbA hS (by omega) (by omega) dL_law_357 ?_
    refine lv_aload_n hx hb dL_law_358 rfl (lv_at hl 0 rfl) ?_
    refine lv_iload_n hx hb dL_law_359 rfl (lv_at hl 3 rfl) ?_
    refine lv_iconst (v := nI 2) hx hb dL_law_360 (by decide +kernel) ?_
    refine tr_iadd (z := nI (i + 2)) hx hb dL_law_361 (nI_add _ _) ?_
    refine tr_sld hx hb hX hbl hbA hS (by omega) (by omega) dL_law_362 ?_
    refine tr_lawM (As := [.int (xs (i + 1)), .int (xs (i + 2))]) (rest := [.int r1]) S0 (tr_M_alike l D h cI cZ S v hRm hI (xs (i + 1)) (xs (i + 2))) 2 (lw_V q251 q252 q253 q18 q254) (by decide +kernel) ⟨(Nat.le_of_ble_eq_true rfl), (Nat.le_of_ble_eq_true rfl)⟩ hK hP hD hS hA rfl hl.1 rfl (Nat.le_of_ble_eq_true rfl) dL_law_363 ⟨(Nat.le_of_ble_eq_true rfl), (Nat.le_of_ble_eq_true rfl)⟩ (fun r2 v2 H locs hw2 hP hD hS => ?_)
    have e1 := hw1.2
    have hRx2 : RepX S u2 := by rw [hw1.1]; exact hRx
    have e2 := hw2.1
    have hRm2 : RepM S v2 := hw2.2
    refine lv_icmp_eq (tgt := 371) hx hb dL_law_366 (by decide) (fun _ => ?_) (fun hne => absurd (e1.trans e2.symm) hne)
    exact back S u2 v2 hI hRx2 hRm2 H locs hP hD hS
  · have hj2 : (nI j).toInt = (j : Int) := nI_toInt (by omega)
    refine lv_tableOut (tgt := 371) hx hb dL_law_32 (Or.inr (by rw [hj2]; omega)) (by decide) ?_
    exact back S u v hI hRx hRm H locs hP hD hS
end
section
set_option maxRecDepth 100000
-- ===== YOUR PART ENDS =====
set_option maxHeartbeats 4000000 in
theorem lw_walk (l : Launch) (b : Addr) (xs : List Int32) : MetFree l x (headSpec (Jvm.Cond.code x code maxLocals ret :: tables_1) room_1) (lw_P b xs) (fun _ _ _ _ _ => True) lw_Q := by
  refine MetFree.of_bodyS (code := code) (maxLocals := maxLocals) (ret := ret) (by decide) ?_ ?_
  · intro args s m h hn
    obtain ⟨meth, c, h1, h2, h3, h4, h5, h6, -, -⟩ := Cond.code_spec hn (atoms_spec (ws := Jvm.Cond.code x code maxLocals ret :: tables_1) h _ List.mem_cons_self)
    exact ⟨meth, c, h1, h2, h3, h4, h5, h6⟩
  · intro p e s m args below meth c s₁ B hml0 hP _
    obtain ⟨rfl, hx, hbd, hgv⟩ := hP
    obtain ⟨scr, harrAt, hlist, hof, hsmall⟩ := hx
    obtain ⟨hcb, hkn, -, -⟩ := State.arrayAt?_spec harrAt
    have hown : s.vm.findClass R_law = some m.cls := findClass_of_methodNamed B.named
    have hts0 : ∀ c ∈ (Jvm.Cond.code x code maxLocals ret :: tables_1), c.before #[Value.ref b] s = true := atoms_spec (ws := Jvm.Cond.code x code maxLocals ret :: tables_1) B.pre
    have hts : ∀ w ∈ lw_tbl, w.before #[Value.ref b] s = true := k2_hts_sels lw_privs (fun w hw => hts0 w (List.mem_cons_of_mem _ hw)) lw_privs_ok
    have hml : c.maxLocals = 4 := B.maxLocals_eq (hts0 _ List.mem_cons_self)
    have X₀ : Stand p l e room_1 s m #[Value.ref b] below meth c s₁ [] 0 0 := Stand.of_body B
    have hh0 : s₁.heap = s.heap := by rw [B.state]; rfl
    have hsz : scr.slots.size = xs.length := by rw [← Array.length_toList, hlist, List.length_map]
    have hval : ∀ j : Nat, j < xs.length → scr.slots[j]? = some (.int (xs.getD j 0)) := fun j hj => by
      rw [← Array.getElem?_toList, hlist]
      simp [hj]
    have hbl : b < s.heap.size := (Array.getElem?_eq_some_iff.mp hcb).1
    have hX : va_X b xs.length (fun j => xs.getD j 0) s s.heap := ⟨scr, hcb, hof, hkn, hsz, hval⟩
    have K : W p l e room_1 s m #[Value.ref b] below meth c s₁.heap [] 0 0 (lw_Z below #[Value.ref b] s) (entryFrame m ([Value.ref b] : List Value).toArray 4) := by
      rw [hh0]
      exact whole_start l hbd ⟨B.exec, B.bytes, B.returns, hml, hown, hts, hX, hbl, B.notSynchronized, hgv⟩
    obtain ⟨t, a1, o, b1, b2, b3⟩ := K s₁ rfl X₀
    exact ⟨t, o, a1, b1, b2, b3⟩
theorem lw_pre_spec {args : Array Value} {s : State} (h : (Jvm.Cond.and given_1 narrow_1).before args s = true) (hr : rest_1_c.before args s = true) : ∃ (b : Addr) (xs : List Int32), lw_P b xs args s := by
  have hs := flat_of_before _ h
  have hq := flat_of_before _ hr
  have hc : (Cond.count 1).before args s = true := hs _ (by decide +kernel)
  have harr : (Cond.arrayOf (.arg 0) .int).before args s = true := hs _ (by decide +kernel)
  have hle : (Cond.le (.length (.arg 0)) (.int 256)).before args s = true := hs _ (by decide +kernel)
  have hlen : (Cond.isInt (.length (.arg 0))).before args s = true := hq _ (by decide +kernel)
  have hall : (Cond.all (.arg 0) (.isInt (.elem (.arg 0) (.index 0)))).before args s = true := hq _ (by decide +kernel)
  obtain ⟨b, xs, hb, hx⟩ := State.ints_of_pre rfl harr hlen hall
  have hsm : xs.length < 2 ^ 31 := hx.choose_spec.2.2.2
  have hev : (Term.length (.arg 0)).eval args s none [] s = some (.int xs.length.toInt32) := hx.length_eval hb
  have hv := Cond.le_ints hev (show (Term.int 256).eval args s none [] s = some (.int 256) from rfl)
  have hd : xs.length.toInt32 ≤ 256 := by
    simpa [Cond.before, Cond.holds, hv] using hle
  have hN : xs.length ≤ 256 := (Int32.ofNat_le_ofNat hsm (by decide)).mp (show Int32.ofNat xs.length ≤ Int32.ofNat 256 from hd)
  exact ⟨b, xs, Cond.one_arg hc (show args[0]? = some (.ref b) from hb), hx, hN, h⟩
theorem lw_comes (l : Launch) : Comes l x (Jvm.Cond.code x code maxLocals ret :: tables_1) room_1 (fun tb e args s => Calls_1 tb e args s ∧ rest_1 tb e args s ∧ Pre_1 tb e args s)
    (fun _ _ args s o t => lw_Q args s o t) := by
  intro p e ha hc hk s m args below hf hfit hheap happ hpre
  obtain ⟨b, xs, hP⟩ := lw_pre_spec hpre.2.2 hpre.2.1
  obtain ⟨k, o, h1, h2, h3, hQ⟩ := lw_walk l b xs p e ha hc hk s m args below hf ((Spec.applies_iff_loose hf).mp happ).1 hP trivial
  exact ⟨k, o, h1, h2, h3, hQ⟩
theorem lw_frame {s t : State} {o : Outcome} {args : Array Value} (h : Framed s o t [] 600000 7290000) :
    Framed s o t (fieldLocs frame_1_writes args s ++ arrayLocs frame_1_arrays args s ++ staticLocs frame_1_statics s) 600000 7290000 := h
theorem lw_limb (L : Cond) (hL : ∀ (args : Array Value) (s t : State), L.after args s (.returned (some (.int 1))) t = true) :
    ArmFor flags0 classFile x code maxLocals ret World_1 tables_1 room_1 Calls_1 rest_1 Pre_1
      (fun tb e a s o t => postC L tb e a s o t ∧ Framed s o t (fieldLocs frame_1_writes a s ++ arrayLocs frame_1_arrays a s ++ staticLocs frame_1_statics s) 600000 7290000) := by
  intro l _ _ _ p e ha hc hk s m args below hf hfit hheap happ hpre
  obtain ⟨k, o, h1, h2, h3, rfl, hF⟩ := lw_comes l p e ha hc hk s m args below hf hfit hheap happ hpre
  exact ⟨k, _, h1, h2, h3, hL args s _, lw_frame hF⟩
theorem i_vc : Claimed_1_1 ∧ Claimed_1_2 := ⟨lw_limb limb_1_1 (fun args s t => by simp [limb_1_1, Cond.after, Cond.holds, Cond.value]), lw_limb limb_1_2 (fun args s t => Cond.after_iff.mpr (by
  first | (rw [show limb_1_2 = Cond.eq .result (.int 1) from rfl, Cond.eq_ints (x := 1) (y := 1) rfl rfl]; simp; done) | (simp [limb_1_2, Cond.value, Term.eval]; done)))⟩
end
