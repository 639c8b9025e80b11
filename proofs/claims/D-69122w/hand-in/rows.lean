section
-- ===== PART A: goes FIRST, ahead of the names: the tables' words, and 'selects' of the private methods out of them =====
/-- a private method of a class that the tables say can be made, by its rows of tables_1 -/
def lw_okq (q : MethodName × Nat) : Prop := (q.1.cls ≠ "java/lang/invoke/MethodHandle" ∧ q.1.cls ≠ "java/lang/invoke/VarHandle") ∧ Cond.instantiable q.1.cls q.2 ∈ tables_1 ∧ Cond.privateMethod q.1 ∈ tables_1 ∧ Cond.instanceMethod q.1 ∈ tables_1
set_option maxRecDepth 100000
theorem lw_t1 {w : Cond} (h : w ∈ tables_1_1) : w ∈ tables_1 := List.mem_append_left _ h
theorem lw_t2 {w : Cond} (h : w ∈ tables_1_2) : w ∈ tables_1 := List.mem_append_right _ h
theorem lw_p0 : lw_okq (⟨"ProducerBook$Pages", "slot", "(J)I"⟩, 6) := ⟨⟨by decide +kernel, by decide +kernel⟩, lw_t1 (List.mem_of_getElem? (i := 66) rfl), lw_t1 (List.mem_of_getElem? (i := 116) rfl), lw_t1 (List.mem_of_getElem? (i := 117) rfl)⟩
theorem lw_p1 : lw_okq (⟨"java/lang/Throwable", "fillInStackTrace", "(I)Ljava/lang/Throwable;"⟩, 6) := ⟨⟨by decide +kernel, by decide +kernel⟩, lw_t1 (List.mem_of_getElem? (i := 177) rfl), lw_t1 (List.mem_of_getElem? (i := 175) rfl), lw_t1 (List.mem_of_getElem? (i := 176) rfl)⟩
theorem lw_p2 : lw_okq (⟨"ProducerBook", "answer", "(JIII)I"⟩, 2) := ⟨⟨by decide +kernel, by decide +kernel⟩, lw_t1 (List.mem_of_getElem? (i := 12) rfl), lw_t1 (List.mem_of_getElem? (i := 202) rfl), lw_t1 (List.mem_of_getElem? (i := 203) rfl)⟩
theorem lw_p3 : lw_okq (⟨"ProducerBook", "send", "(JIII)I"⟩, 2) := ⟨⟨by decide +kernel, by decide +kernel⟩, lw_t1 (List.mem_of_getElem? (i := 12) rfl), lw_t2 (List.mem_of_getElem? (i := 5) rfl), lw_t2 (List.mem_of_getElem? (i := 6) rfl)⟩
theorem lw_p4 : lw_okq (⟨"ProducerBookModel", "judged", "(JIII)I"⟩, 8) := ⟨⟨by decide +kernel, by decide +kernel⟩, lw_t2 (List.mem_of_getElem? (i := 51) rfl), lw_t2 (List.mem_of_getElem? (i := 94) rfl), lw_t2 (List.mem_of_getElem? (i := 95) rfl)⟩
theorem lw_p5 : lw_okq (⟨"ProducerBookModel", "knownOne", "(JI)I"⟩, 8) := ⟨⟨by decide +kernel, by decide +kernel⟩, lw_t2 (List.mem_of_getElem? (i := 51) rfl), lw_t2 (List.mem_of_getElem? (i := 98) rfl), lw_t2 (List.mem_of_getElem? (i := 99) rfl)⟩
theorem lw_p6 : lw_okq (⟨"ProducerBookModel", "come", "(JIII)V"⟩, 8) := ⟨⟨by decide +kernel, by decide +kernel⟩, lw_t2 (List.mem_of_getElem? (i := 51) rfl), lw_t2 (List.mem_of_getElem? (i := 107) rfl), lw_t2 (List.mem_of_getElem? (i := 108) rfl)⟩
theorem lw_p7 : lw_okq (⟨"ProducerBookModel", "copy", "(II)V"⟩, 8) := ⟨⟨by decide +kernel, by decide +kernel⟩, lw_t2 (List.mem_of_getElem? (i := 51) rfl), lw_t2 (List.mem_of_getElem? (i := 119) rfl), lw_t2 (List.mem_of_getElem? (i := 120) rfl)⟩
theorem lw_p8 : lw_okq (⟨"ProducerBookModel", "isKnown", "(I)Z"⟩, 8) := ⟨⟨by decide +kernel, by decide +kernel⟩, lw_t2 (List.mem_of_getElem? (i := 51) rfl), lw_t2 (List.mem_of_getElem? (i := 127) rfl), lw_t2 (List.mem_of_getElem? (i := 128) rfl)⟩
theorem lw_p9 : lw_okq (⟨"ProducerBookModel", "laterOnes", "(I)I"⟩, 8) := ⟨⟨by decide +kernel, by decide +kernel⟩, lw_t2 (List.mem_of_getElem? (i := 51) rfl), lw_t2 (List.mem_of_getElem? (i := 131) rfl), lw_t2 (List.mem_of_getElem? (i := 132) rfl)⟩
def lw_privs_1 : List (MethodName × Nat) := [(⟨"ProducerBook$Pages", "slot", "(J)I"⟩, 6), (⟨"java/lang/Throwable", "fillInStackTrace", "(I)Ljava/lang/Throwable;"⟩, 6), (⟨"ProducerBook", "answer", "(JIII)I"⟩, 2), (⟨"ProducerBook", "send", "(JIII)I"⟩, 2), (⟨"ProducerBookModel", "judged", "(JIII)I"⟩, 8), (⟨"ProducerBookModel", "knownOne", "(JI)I"⟩, 8), (⟨"ProducerBookModel", "come", "(JIII)V"⟩, 8), (⟨"ProducerBookModel", "copy", "(II)V"⟩, 8), (⟨"ProducerBookModel", "isKnown", "(I)Z"⟩, 8), (⟨"ProducerBookModel", "laterOnes", "(I)I"⟩, 8)]
theorem lw_r1 : ∀ q ∈ lw_privs_1, lw_okq q := List.forall_mem_cons.mpr ⟨lw_p0, List.forall_mem_cons.mpr ⟨lw_p1, List.forall_mem_cons.mpr ⟨lw_p2, List.forall_mem_cons.mpr ⟨lw_p3, List.forall_mem_cons.mpr ⟨lw_p4, List.forall_mem_cons.mpr ⟨lw_p5, List.forall_mem_cons.mpr ⟨lw_p6, List.forall_mem_cons.mpr ⟨lw_p7, List.forall_mem_cons.mpr ⟨lw_p8, List.forall_mem_cons.mpr ⟨lw_p9, fun _ h => absurd h List.not_mem_nil⟩⟩⟩⟩⟩⟩⟩⟩⟩⟩
def lw_privs : List (MethodName × Nat) := lw_privs_1
def lw_tbl : List Cond := k2_sels lw_privs ++ tables_1
theorem lw_privs_ok : ∀ q ∈ lw_privs, lw_okq q := lw_r1
-- ===== ONE list of words for every method: the tables' words that hold all through a run =====
def lw_all : List Cond := lw_tbl.filter goodWord
/-- a word of the tables by its place: claim/WORDS.tsv -/
theorem lw_w {w : Cond} (i : Nat) (h : lw_tbl[i]? = some w) (g : goodWord w = true) : w ∈ lw_all := List.mem_filter.mpr ⟨List.mem_of_getElem? h, g⟩
theorem lw_all_tbl {w : Cond} (h : w ∈ lw_all) : w ∈ lw_tbl := (List.mem_filter.mp h).1
theorem lw_self : GoodIn lw_all lw_all := fun w h => ⟨h, good_of_word (List.mem_filter.mp h).2⟩
/-- a class's field words, by their places -/
theorem lw_in (ws : List Cond) (ps : List Nat) (hp : ws = ps.filterMap (fun i => lw_tbl[i]?)) (hg : ws.all goodWord = true) : ∀ w ∈ ws, w ∈ lw_all := by
  intro w h
  have h1 := List.all_eq_true.mp hg w h
  rw [hp] at h
  obtain ⟨i, -, hi⟩ := List.mem_filterMap.mp h
  exact lw_w i hi h1
/-- the words of a contract for the method y with code b, L locals, answer r -/
abbrev ws_ (y : MethodName) (b : ByteArray) (L : Nat) (r : Option FieldType) : List Cond := Cond.code y b L r :: lw_all
theorem lw_meth {y : MethodName} {b : ByteArray} {L : Nat} {r : Option FieldType} (h : Cond.code y b L r ∈ lw_all) : GoodIn lw_all (ws_ y b L r) := by
  intro w hw
  rcases List.mem_cons.mp hw with e | e
  · rw [e]
    exact lw_self _ h
  · exact lw_self _ e
theorem lw_app {a c : List Cond} (ha : ∀ w ∈ a, w ∈ lw_all) (hc : GoodIn lw_all c) : GoodIn lw_all (a ++ c) := by
  intro w hw
  rcases List.mem_append.mp hw with e | e
  · exact lw_self w (ha w e)
  · exact hc w e
/-- what a call through an object asks: cwV n hts (lw_V ..) -/
theorem lw_V {own : String} {idx : Nat} {C : String} {y : MethodName} {b : ByteArray} {L : Nat} {r : Option FieldType} (h1 : Cond.methodLink own idx y ∈ lw_all) (h2 : Cond.instanceMethod y ∈ lw_all) (h3 : Cond.selects C y y ∈ lw_all) (h4 : Cond.initialized C ∈ lw_all) (h5 : Cond.code y b L r ∈ lw_all) : GoodIn lw_all (wsV own idx C y (ws_ y b L r)) := by
  refine lw_app ?_ (lw_meth h5)
  intro w hw
  simp only [List.mem_cons, List.not_mem_nil, or_false] at hw
  rcases hw with e | e | e | e
  · rw [e]; exact h1
  · rw [e]; exact h2
  · rw [e]; exact h3
  · rw [e]; exact h4
/-- what a static call asks: va_cwS n hts (lw_S ..) -/
theorem lw_S {own : String} {idx : Nat} {y : MethodName} {b : ByteArray} {L : Nat} {r : Option FieldType} (h1 : Cond.methodLink own idx y ∈ lw_all) (h2 : Cond.static y ∈ lw_all) (h3 : Cond.initialized y.cls ∈ lw_all) (h4 : Cond.code y b L r ∈ lw_all) : GoodIn lw_all (va_wsS own idx y (ws_ y b L r)) := by
  refine lw_app ?_ (lw_meth h4)
  intro w hw
  simp only [List.mem_cons, List.not_mem_nil, or_false] at hw
  rcases hw with e | e | e
  · rw [e]; exact h1
  · rw [e]; exact h2
  · rw [e]; exact h3
/-- the words of a contract for a method WITH HANDLERS (hh: its table) -/
abbrev wsW_ (y : MethodName) (b : ByteArray) (L : Nat) (r : Option FieldType) (hh : List (Nat × Nat × Nat × Nat)) : List Cond := Cond.codeWith y b L r hh :: lw_all
theorem lw_methW {y : MethodName} {b : ByteArray} {L : Nat} {r : Option FieldType} {hh : List (Nat × Nat × Nat × Nat)} (h : Cond.codeWith y b L r hh ∈ lw_all) : GoodIn lw_all (wsW_ y b L r hh) := by
  intro w hw
  rcases List.mem_cons.mp hw with e | e
  · rw [e]
    exact lw_self _ h
  · exact lw_self _ e
/-- any list of words by their places (lw_in), good -/
theorem lw_good {ws : List Cond} (h : ∀ w ∈ ws, w ∈ lw_all) : GoodIn lw_all ws := fun w hw => lw_self w (h w hw)
/-- what a call of a method with handlers asks: vx_cwVW n hts (lw_VW ..), vx_cwSW n hts (lw_SW ..) -/
theorem lw_VW {own : String} {idx : Nat} {C : String} {y : MethodName} {b : ByteArray} {L : Nat} {r : Option FieldType} {hh : List (Nat × Nat × Nat × Nat)} (h1 : Cond.methodLink own idx y ∈ lw_all) (h2 : Cond.instanceMethod y ∈ lw_all) (h3 : Cond.selects C y y ∈ lw_all) (h4 : Cond.initialized C ∈ lw_all) (h5 : Cond.codeWith y b L r hh ∈ lw_all) : GoodIn lw_all (wsV own idx C y (wsW_ y b L r hh)) := by
  refine lw_app ?_ (lw_methW h5)
  intro w hw
  simp only [List.mem_cons, List.not_mem_nil, or_false] at hw
  rcases hw with e | e | e | e
  · rw [e]; exact h1
  · rw [e]; exact h2
  · rw [e]; exact h3
  · rw [e]; exact h4
theorem lw_SW {own : String} {idx : Nat} {y : MethodName} {b : ByteArray} {L : Nat} {r : Option FieldType} {hh : List (Nat × Nat × Nat × Nat)} (h1 : Cond.methodLink own idx y ∈ lw_all) (h2 : Cond.static y ∈ lw_all) (h3 : Cond.initialized y.cls ∈ lw_all) (h4 : Cond.codeWith y b L r hh ∈ lw_all) : GoodIn lw_all (va_wsS own idx y (wsW_ y b L r hh)) := by
  refine lw_app ?_ (lw_methW h4)
  intro w hw
  simp only [List.mem_cons, List.not_mem_nil, or_false] at hw
  rcases hw with e | e | e
  · rw [e]; exact h1
  · rw [e]; exact h2
  · rw [e]; exact h3
/-- a word by its place in its run of the tables -/
theorem lw_at {r : List Cond} (hr : ∀ w ∈ r, w ∈ lw_tbl) {w : Cond} (i : Nat) (h : r[i]? = some w) : w ∈ lw_tbl := hr w (List.mem_of_getElem? h)
theorem lw_g {w : Cond} (h : w ∈ lw_tbl) (g : goodWord w = true) : w ∈ lw_all := List.mem_filter.mpr ⟨h, g⟩
theorem lw_ms : ∀ w ∈ k2_sels lw_privs, w ∈ lw_tbl := fun w h => show w ∈ k2_sels lw_privs ++ tables_1 from List.mem_append_left _ h
theorem lw_m1 : ∀ w ∈ tables_1_1, w ∈ lw_tbl := fun w h => show w ∈ k2_sels lw_privs ++ tables_1 from List.mem_append_right (k2_sels lw_privs) (show w ∈ tables_1 from List.mem_append_left _ h)
theorem lw_m2 : ∀ w ∈ tables_1_2, w ∈ lw_tbl := fun w h => show w ∈ k2_sels lw_privs ++ tables_1 from List.mem_append_right (k2_sels lw_privs) (show w ∈ tables_1 from List.mem_append_right _ h)
theorem qs0 : (Cond.selects "ProducerBook$Pages" ⟨"ProducerBook$Pages", "slot", "(J)I"⟩ ⟨"ProducerBook$Pages", "slot", "(J)I"⟩) ∈ lw_all := lw_g (lw_at lw_ms 0 rfl) rfl
theorem qs1 : (Cond.selects "java/lang/Throwable" ⟨"java/lang/Throwable", "fillInStackTrace", "(I)Ljava/lang/Throwable;"⟩ ⟨"java/lang/Throwable", "fillInStackTrace", "(I)Ljava/lang/Throwable;"⟩) ∈ lw_all := lw_g (lw_at lw_ms 1 rfl) rfl
theorem qs2 : (Cond.selects "ProducerBook" ⟨"ProducerBook", "answer", "(JIII)I"⟩ ⟨"ProducerBook", "answer", "(JIII)I"⟩) ∈ lw_all := lw_g (lw_at lw_ms 2 rfl) rfl
theorem qs3 : (Cond.selects "ProducerBook" ⟨"ProducerBook", "send", "(JIII)I"⟩ ⟨"ProducerBook", "send", "(JIII)I"⟩) ∈ lw_all := lw_g (lw_at lw_ms 3 rfl) rfl
theorem qs4 : (Cond.selects "ProducerBookModel" ⟨"ProducerBookModel", "judged", "(JIII)I"⟩ ⟨"ProducerBookModel", "judged", "(JIII)I"⟩) ∈ lw_all := lw_g (lw_at lw_ms 4 rfl) rfl
theorem qs5 : (Cond.selects "ProducerBookModel" ⟨"ProducerBookModel", "knownOne", "(JI)I"⟩ ⟨"ProducerBookModel", "knownOne", "(JI)I"⟩) ∈ lw_all := lw_g (lw_at lw_ms 5 rfl) rfl
theorem qs6 : (Cond.selects "ProducerBookModel" ⟨"ProducerBookModel", "come", "(JIII)V"⟩ ⟨"ProducerBookModel", "come", "(JIII)V"⟩) ∈ lw_all := lw_g (lw_at lw_ms 6 rfl) rfl
theorem qs7 : (Cond.selects "ProducerBookModel" ⟨"ProducerBookModel", "copy", "(II)V"⟩ ⟨"ProducerBookModel", "copy", "(II)V"⟩) ∈ lw_all := lw_g (lw_at lw_ms 7 rfl) rfl
theorem qs8 : (Cond.selects "ProducerBookModel" ⟨"ProducerBookModel", "isKnown", "(I)Z"⟩ ⟨"ProducerBookModel", "isKnown", "(I)Z"⟩) ∈ lw_all := lw_g (lw_at lw_ms 8 rfl) rfl
theorem qs9 : (Cond.selects "ProducerBookModel" ⟨"ProducerBookModel", "laterOnes", "(I)I"⟩ ⟨"ProducerBookModel", "laterOnes", "(I)I"⟩) ∈ lw_all := lw_g (lw_at lw_ms 9 rfl) rfl
end
section
set_option maxRecDepth 100000
theorem q71 : (Jvm.Cond.arrayClass Jvm.ClassFile.FieldType.int) ∈ lw_all := lw_g (lw_at lw_m1 61 rfl) rfl
theorem q72 : (Jvm.Cond.arrayClass Jvm.ClassFile.FieldType.long) ∈ lw_all := lw_g (lw_at lw_m1 62 rfl) rfl
theorem q73 : (Jvm.Cond.arrayClass Jvm.ClassFile.FieldType.short) ∈ lw_all := lw_g (lw_at lw_m1 63 rfl) rfl
theorem q74 : (Jvm.Cond.arrayClass Jvm.ClassFile.FieldType.boolean) ∈ lw_all := lw_g (lw_at lw_m1 64 rfl) rfl
/-! ProducerBookLaw -/
def RX0 : String := "ProducerBookLaw"
abbrev cX0_offer : ByteArray := method_3_code
def yX0_offer : MethodName := ⟨RX0, "offer", "(LProducerBook;JIII[J)I"⟩
abbrev cX0_offers : ByteArray := method_4_code
def yX0_offers : MethodName := ⟨RX0, "offers", "(LProducerBook;IJIII[J)I"⟩
abbrev cX0_drop : ByteArray := method_5_code
def yX0_drop : MethodName := ⟨RX0, "drop", "(LProducerBook;I[J)I"⟩
abbrev cX0_known : ByteArray := method_6_code
def yX0_known : MethodName := ⟨RX0, "known", "(LProducerBook;JI[J)I"⟩
abbrev cX0_batch : ByteArray := method_7_code
def yX0_batch : MethodName := ⟨RX0, "batch", "(LProducerBook;II[J)I"⟩
abbrev cX0_count : ByteArray := method_8_code
def yX0_count : MethodName := ⟨RX0, "count", "(LProducerBook;I[J)I"⟩
theorem q10 : (Jvm.Cond.initialized "ProducerBookLaw") ∈ lw_all := lw_g (lw_at lw_m1 0 rfl) rfl
theorem q21 : (Jvm.Cond.classLink "ProducerBookLaw" (8 : Nat) "ProducerBook") ∈ lw_all := lw_g (lw_at lw_m1 11 rfl) rfl
theorem q23 : (Jvm.Cond.methodLink "ProducerBookLaw" (36 : Nat) ({ cls := "ProducerBook", name := "<init>", desc := "()V" } : Jvm.MethodName)) ∈ lw_all := lw_g (lw_at lw_m1 13 rfl) rfl
theorem q108 : (Jvm.Cond.methodLink "ProducerBookLaw" (60 : Nat) ({ cls := "ProducerBook", name := "thin", desc := "()I" } : Jvm.MethodName)) ∈ lw_all := lw_g (lw_at lw_m1 98 rfl) rfl
theorem q133 : (Jvm.Cond.methodLink "ProducerBookLaw" (42 : Nat) ({ cls := "ProducerBookLaw", name := "offer", desc := "(LProducerBook;JIII[J)I" } : Jvm.MethodName)) ∈ lw_all := lw_g (lw_at lw_m1 123 rfl) rfl
theorem q134 : (Jvm.Cond.static ({ cls := "ProducerBookLaw", name := "offer", desc := "(LProducerBook;JIII[J)I" } : Jvm.MethodName)) ∈ lw_all := lw_g (lw_at lw_m1 124 rfl) rfl
theorem q135 : (Jvm.Cond.codeWith ({ cls := "ProducerBookLaw", name := "offer", desc := "(LProducerBook;JIII[J)I" } : Jvm.MethodName) method_3_code (8 : Nat) (Option.some Jvm.ClassFile.FieldType.int) [((0 : Nat), (15 : Nat), (18 : Nat), (13 : Nat)), ((0 : Nat), (15 : Nat), (22 : Nat), (15 : Nat))]) ∈ lw_all := lw_g (lw_at lw_m1 125 rfl) rfl
theorem q136 : (Jvm.Cond.classLink "ProducerBookLaw" (13 : Nat) "java/lang/IllegalArgumentException") ∈ lw_all := lw_g (lw_at lw_m1 126 rfl) rfl
theorem q137 : (Jvm.Cond.classLink "ProducerBookLaw" (15 : Nat) "java/lang/IllegalStateException") ∈ lw_all := lw_g (lw_at lw_m1 127 rfl) rfl
theorem q138 : (Jvm.Cond.methodLink "ProducerBookLaw" (7 : Nat) ({ cls := "ProducerBook", name := "offer", desc := "(JIII)I" } : Jvm.MethodName)) ∈ lw_all := lw_g (lw_at lw_m1 128 rfl) rfl
theorem q263 : (Jvm.Cond.methodLink "ProducerBookLaw" (52 : Nat) ({ cls := "ProducerBookLaw", name := "offers", desc := "(LProducerBook;IJIII[J)I" } : Jvm.MethodName)) ∈ lw_all := lw_g (lw_at lw_m2 13 rfl) rfl
theorem q264 : (Jvm.Cond.static ({ cls := "ProducerBookLaw", name := "offers", desc := "(LProducerBook;IJIII[J)I" } : Jvm.MethodName)) ∈ lw_all := lw_g (lw_at lw_m2 14 rfl) rfl
theorem q265 : (Jvm.Cond.codeWith ({ cls := "ProducerBookLaw", name := "offers", desc := "(LProducerBook;IJIII[J)I" } : Jvm.MethodName) method_4_code (9 : Nat) (Option.some Jvm.ClassFile.FieldType.int) [((0 : Nat), (17 : Nat), (20 : Nat), (13 : Nat)), ((0 : Nat), (17 : Nat), (24 : Nat), (15 : Nat))]) ∈ lw_all := lw_g (lw_at lw_m2 15 rfl) rfl
theorem q266 : (Jvm.Cond.methodLink "ProducerBookLaw" (17 : Nat) ({ cls := "ProducerBook", name := "offers", desc := "(IJIII)I" } : Jvm.MethodName)) ∈ lw_all := lw_g (lw_at lw_m2 16 rfl) rfl
theorem q271 : (Jvm.Cond.methodLink "ProducerBookLaw" (56 : Nat) ({ cls := "ProducerBookLaw", name := "drop", desc := "(LProducerBook;I[J)I" } : Jvm.MethodName)) ∈ lw_all := lw_g (lw_at lw_m2 21 rfl) rfl
theorem q272 : (Jvm.Cond.static ({ cls := "ProducerBookLaw", name := "drop", desc := "(LProducerBook;I[J)I" } : Jvm.MethodName)) ∈ lw_all := lw_g (lw_at lw_m2 22 rfl) rfl
theorem q273 : (Jvm.Cond.codeWith ({ cls := "ProducerBookLaw", name := "drop", desc := "(LProducerBook;I[J)I" } : Jvm.MethodName) method_5_code (4 : Nat) (Option.some Jvm.ClassFile.FieldType.int) [((0 : Nat), (9 : Nat), (12 : Nat), (13 : Nat))]) ∈ lw_all := lw_g (lw_at lw_m2 23 rfl) rfl
theorem q274 : (Jvm.Cond.methodLink "ProducerBookLaw" (21 : Nat) ({ cls := "ProducerBook", name := "drop", desc := "(I)I" } : Jvm.MethodName)) ∈ lw_all := lw_g (lw_at lw_m2 24 rfl) rfl
theorem q279 : (Jvm.Cond.methodLink "ProducerBookLaw" (64 : Nat) ({ cls := "ProducerBookLaw", name := "known", desc := "(LProducerBook;JI[J)I" } : Jvm.MethodName)) ∈ lw_all := lw_g (lw_at lw_m2 29 rfl) rfl
theorem q280 : (Jvm.Cond.static ({ cls := "ProducerBookLaw", name := "known", desc := "(LProducerBook;JI[J)I" } : Jvm.MethodName)) ∈ lw_all := lw_g (lw_at lw_m2 30 rfl) rfl
theorem q281 : (Jvm.Cond.codeWith ({ cls := "ProducerBookLaw", name := "known", desc := "(LProducerBook;JI[J)I" } : Jvm.MethodName) method_6_code (6 : Nat) (Option.some Jvm.ClassFile.FieldType.int) [((0 : Nat), (11 : Nat), (14 : Nat), (13 : Nat))]) ∈ lw_all := lw_g (lw_at lw_m2 31 rfl) rfl
theorem q282 : (Jvm.Cond.methodLink "ProducerBookLaw" (25 : Nat) ({ cls := "ProducerBook", name := "known", desc := "(JI)I" } : Jvm.MethodName)) ∈ lw_all := lw_g (lw_at lw_m2 32 rfl) rfl
theorem q286 : (Jvm.Cond.methodLink "ProducerBookLaw" (68 : Nat) ({ cls := "ProducerBookLaw", name := "batch", desc := "(LProducerBook;II[J)I" } : Jvm.MethodName)) ∈ lw_all := lw_g (lw_at lw_m2 36 rfl) rfl
theorem q287 : (Jvm.Cond.static ({ cls := "ProducerBookLaw", name := "batch", desc := "(LProducerBook;II[J)I" } : Jvm.MethodName)) ∈ lw_all := lw_g (lw_at lw_m2 37 rfl) rfl
theorem q288 : (Jvm.Cond.codeWith ({ cls := "ProducerBookLaw", name := "batch", desc := "(LProducerBook;II[J)I" } : Jvm.MethodName) method_7_code (5 : Nat) (Option.some Jvm.ClassFile.FieldType.int) [((0 : Nat), (9 : Nat), (12 : Nat), (13 : Nat))]) ∈ lw_all := lw_g (lw_at lw_m2 38 rfl) rfl
theorem q289 : (Jvm.Cond.methodLink "ProducerBookLaw" (29 : Nat) ({ cls := "ProducerBook", name := "batch", desc := "(II)J" } : Jvm.MethodName)) ∈ lw_all := lw_g (lw_at lw_m2 39 rfl) rfl
theorem q293 : (Jvm.Cond.methodLink "ProducerBookLaw" (72 : Nat) ({ cls := "ProducerBookLaw", name := "count", desc := "(LProducerBook;I[J)I" } : Jvm.MethodName)) ∈ lw_all := lw_g (lw_at lw_m2 43 rfl) rfl
theorem q294 : (Jvm.Cond.static ({ cls := "ProducerBookLaw", name := "count", desc := "(LProducerBook;I[J)I" } : Jvm.MethodName)) ∈ lw_all := lw_g (lw_at lw_m2 44 rfl) rfl
theorem q295 : (Jvm.Cond.codeWith ({ cls := "ProducerBookLaw", name := "count", desc := "(LProducerBook;I[J)I" } : Jvm.MethodName) method_8_code (4 : Nat) (Option.some Jvm.ClassFile.FieldType.int) [((0 : Nat), (9 : Nat), (12 : Nat), (13 : Nat))]) ∈ lw_all := lw_g (lw_at lw_m2 45 rfl) rfl
theorem q296 : (Jvm.Cond.methodLink "ProducerBookLaw" (33 : Nat) ({ cls := "ProducerBook", name := "count", desc := "(I)I" } : Jvm.MethodName)) ∈ lw_all := lw_g (lw_at lw_m2 46 rfl) rfl
theorem q300 : (Jvm.Cond.classLink "ProducerBookLaw" (37 : Nat) "ProducerBookModel") ∈ lw_all := lw_g (lw_at lw_m2 50 rfl) rfl
theorem q302 : (Jvm.Cond.methodLink "ProducerBookLaw" (39 : Nat) ({ cls := "ProducerBookModel", name := "<init>", desc := "()V" } : Jvm.MethodName)) ∈ lw_all := lw_g (lw_at lw_m2 52 rfl) rfl
theorem q331 : (Jvm.Cond.methodLink "ProducerBookLaw" (48 : Nat) ({ cls := "ProducerBookModel", name := "thrown", desc := "()I" } : Jvm.MethodName)) ∈ lw_all := lw_g (lw_at lw_m2 81 rfl) rfl
theorem q335 : (Jvm.Cond.methodLink "ProducerBookLaw" (47 : Nat) ({ cls := "ProducerBookModel", name := "offer", desc := "(JIII)I" } : Jvm.MethodName)) ∈ lw_all := lw_g (lw_at lw_m2 85 rfl) rfl
theorem q360 : (Jvm.Cond.methodLink "ProducerBookLaw" (55 : Nat) ({ cls := "ProducerBookModel", name := "offers", desc := "(IJIII)I" } : Jvm.MethodName)) ∈ lw_all := lw_g (lw_at lw_m2 110 rfl) rfl
theorem q364 : (Jvm.Cond.methodLink "ProducerBookLaw" (59 : Nat) ({ cls := "ProducerBookModel", name := "drop", desc := "(I)I" } : Jvm.MethodName)) ∈ lw_all := lw_g (lw_at lw_m2 114 rfl) rfl
theorem q372 : (Jvm.Cond.methodLink "ProducerBookLaw" (63 : Nat) ({ cls := "ProducerBookModel", name := "thin", desc := "()I" } : Jvm.MethodName)) ∈ lw_all := lw_g (lw_at lw_m2 122 rfl) rfl
theorem q384 : (Jvm.Cond.methodLink "ProducerBookLaw" (67 : Nat) ({ cls := "ProducerBookModel", name := "known", desc := "(JI)I" } : Jvm.MethodName)) ∈ lw_all := lw_g (lw_at lw_m2 134 rfl) rfl
theorem q388 : (Jvm.Cond.methodLink "ProducerBookLaw" (71 : Nat) ({ cls := "ProducerBookModel", name := "batch", desc := "(II)J" } : Jvm.MethodName)) ∈ lw_all := lw_g (lw_at lw_m2 138 rfl) rfl
theorem q392 : (Jvm.Cond.methodLink "ProducerBookLaw" (74 : Nat) ({ cls := "ProducerBookModel", name := "count", desc := "(I)I" } : Jvm.MethodName)) ∈ lw_all := lw_g (lw_at lw_m2 142 rfl) rfl
theorem q396 : (Jvm.Cond.constantLong "ProducerBookLaw" (40 : Nat) (4294967295 : Int64)) ∈ lw_all := lw_g (lw_at lw_m2 146 rfl) rfl
/-! ProducerBook -/
def RX1 : String := "ProducerBook"
def TX1 : u_T := fun k => match k with
  | 0 => ("ProducerBook", "rows", "LProducerBook$Rows;", true)
  | _ => ("ProducerBook", "pages", "LProducerBook$Pages;", true)
def tyX1 : Nat → FieldType := fun k => match k with
  | 0 => .object "ProducerBook$Rows"
  | _ => .object "ProducerBook$Pages"
abbrev wsX10 : List Cond := u_ws RX1 TX1 2
theorem nmX1 : ∀ a, a < 2 → ∀ b, b < 2 → a ≠ b → (TX1 a).2.1 ≠ (TX1 b).2.1 := by decide +kernel
theorem tyX1_ok : ∀ k, k < 2 → parseFieldDescriptor (TX1 k).2.2.1 = some (tyX1 k) := by decide +kernel
abbrev cX1_init : ByteArray := prog_1_method_1_code
def yX1_init : MethodName := ⟨RX1, "<init>", "()V"⟩
abbrev cX1_thin : ByteArray := prog_1_method_10_code
def yX1_thin : MethodName := ⟨RX1, "thin", "()I"⟩
abbrev cX1_offer : ByteArray := prog_1_method_7_code
def yX1_offer : MethodName := ⟨RX1, "offer", "(JIII)I"⟩
abbrev cX1_isBatch : ByteArray := prog_1_method_4_code
def yX1_isBatch : MethodName := ⟨RX1, "isBatch", "(JIII)V"⟩
abbrev cX1_need : ByteArray := prog_1_method_2_code
def yX1_need : MethodName := ⟨RX1, "need", "(Z)V"⟩
abbrev cX1_answer : ByteArray := prog_1_method_5_code
def yX1_answer : MethodName := ⟨RX1, "answer", "(JIII)I"⟩
abbrev cX1_may : ByteArray := prog_1_method_3_code
def yX1_may : MethodName := ⟨RX1, "may", "(Z)V"⟩
abbrev cX1_send : ByteArray := prog_1_method_6_code
def yX1_send : MethodName := ⟨RX1, "send", "(JIII)I"⟩
abbrev cX1_offers : ByteArray := prog_1_method_8_code
def yX1_offers : MethodName := ⟨RX1, "offers", "(IJIII)I"⟩
abbrev cX1_drop : ByteArray := prog_1_method_9_code
def yX1_drop : MethodName := ⟨RX1, "drop", "(I)I"⟩
abbrev cX1_known : ByteArray := prog_1_method_11_code
def yX1_known : MethodName := ⟨RX1, "known", "(JI)I"⟩
abbrev cX1_batch : ByteArray := prog_1_method_12_code
def yX1_batch : MethodName := ⟨RX1, "batch", "(II)J"⟩
abbrev cX1_count : ByteArray := prog_1_method_13_code
def yX1_count : MethodName := ⟨RX1, "count", "(I)I"⟩
theorem q11 : (Jvm.Cond.initialized "ProducerBook") ∈ lw_all := lw_g (lw_at lw_m1 1 rfl) rfl
theorem q22 : (Jvm.Cond.instantiable "ProducerBook" (2 : Nat)) ∈ lw_all := lw_g (lw_at lw_m1 12 rfl) rfl
theorem q24 : (Jvm.Cond.instanceMethod ({ cls := "ProducerBook", name := "<init>", desc := "()V" } : Jvm.MethodName)) ∈ lw_all := lw_g (lw_at lw_m1 14 rfl) rfl
theorem q25 : (Jvm.Cond.code ({ cls := "ProducerBook", name := "<init>", desc := "()V" } : Jvm.MethodName) prog_1_method_1_code (1 : Nat) (Option.none : Option Jvm.ClassFile.FieldType)) ∈ lw_all := lw_g (lw_at lw_m1 15 rfl) rfl
theorem q26 : (Jvm.Cond.methodLink "ProducerBook" (1 : Nat) ({ cls := "java/lang/Object", name := "<init>", desc := "()V" } : Jvm.MethodName)) ∈ lw_all := lw_g (lw_at lw_m1 16 rfl) rfl
theorem q29 : (Jvm.Cond.classLink "ProducerBook" (7 : Nat) "ProducerBook$Rows") ∈ lw_all := lw_g (lw_at lw_m1 19 rfl) rfl
theorem q31 : (Jvm.Cond.methodLinkNest "ProducerBook" (9 : Nat) ({ cls := "ProducerBook$Rows", name := "<init>", desc := "()V" } : Jvm.MethodName) "ProducerBook") ∈ lw_tbl := lw_at lw_m1 21 rfl
theorem q36 : (Jvm.Cond.fieldLink "ProducerBook" (62 : Nat) "ProducerBook$Rows" "bases" "[I") ∈ lw_all := lw_g (lw_at lw_m1 26 rfl) rfl
theorem q39 : (Jvm.Cond.fieldLink "ProducerBook" (113 : Nat) "ProducerBook$Rows" "producers" "[J") ∈ lw_all := lw_g (lw_at lw_m1 29 rfl) rfl
theorem q41 : (Jvm.Cond.fieldLink "ProducerBook" (47 : Nat) "ProducerBook$Rows" "epochs" "[S") ∈ lw_all := lw_g (lw_at lw_m1 31 rfl) rfl
theorem q43 : (Jvm.Cond.fieldLink "ProducerBook" (55 : Nat) "ProducerBook$Rows" "sequences" "[I") ∈ lw_all := lw_g (lw_at lw_m1 33 rfl) rfl
theorem q45 : (Jvm.Cond.fieldLink "ProducerBook" (59 : Nat) "ProducerBook$Rows" "lasts" "[S") ∈ lw_all := lw_g (lw_at lw_m1 35 rfl) rfl
theorem q48 : (Jvm.Cond.fieldLink "ProducerBook" (110 : Nat) "ProducerBook$Rows" "known" "[Z") ∈ lw_all := lw_g (lw_at lw_m1 38 rfl) rfl
theorem q50 : (Jvm.Cond.fieldLink "ProducerBook" (72 : Nat) "ProducerBook$Rows" "count" "I") ∈ lw_all := lw_g (lw_at lw_m1 40 rfl) rfl
theorem q53 : (Jvm.Cond.fieldLink "ProducerBook" (87 : Nat) "ProducerBook$Rows" "end" "I") ∈ lw_all := lw_g (lw_at lw_m1 43 rfl) rfl
theorem q75 : (Jvm.Cond.classLink "ProducerBook" (16 : Nat) "ProducerBook$Pages") ∈ lw_all := lw_g (lw_at lw_m1 65 rfl) rfl
theorem q77 : (Jvm.Cond.methodLink "ProducerBook" (18 : Nat) ({ cls := "ProducerBook$Pages", name := "<init>", desc := "(LProducerBook$Rows;)V" } : Jvm.MethodName)) ∈ lw_all := lw_g (lw_at lw_m1 67 rfl) rfl
theorem q87 : (Jvm.Cond.fieldLink "ProducerBook" (117 : Nat) "ProducerBook$Pages" "count" "I") ∈ lw_all := lw_g (lw_at lw_m1 77 rfl) rfl
theorem q101 : (Jvm.Cond.fieldLink "ProducerBook" (10 : Nat) "ProducerBook" "rows" "LProducerBook$Rows;") ∈ lw_all := lw_g (lw_at lw_m1 91 rfl) rfl
theorem q102 : (Jvm.Cond.fieldLink "ProducerBook" (21 : Nat) "ProducerBook" "pages" "LProducerBook$Pages;") ∈ lw_all := lw_g (lw_at lw_m1 92 rfl) rfl
theorem q103 : (Jvm.Cond.laysFinal "ProducerBook" "ProducerBook" "rows" "LProducerBook$Rows;") ∈ lw_all := lw_g (lw_at lw_m1 93 rfl) rfl
theorem q104 : (Jvm.Cond.soleField "ProducerBook" "rows") ∈ lw_all := lw_g (lw_at lw_m1 94 rfl) rfl
theorem q105 : (Jvm.Cond.laysFinal "ProducerBook" "ProducerBook" "pages" "LProducerBook$Pages;") ∈ lw_all := lw_g (lw_at lw_m1 95 rfl) rfl
theorem q106 : (Jvm.Cond.soleField "ProducerBook" "pages") ∈ lw_all := lw_g (lw_at lw_m1 96 rfl) rfl
theorem q107 : (Jvm.Cond.superclass "ProducerBook" "java/lang/Object") ∈ lw_all := lw_g (lw_at lw_m1 97 rfl) rfl
theorem q109 : (Jvm.Cond.instanceMethod ({ cls := "ProducerBook", name := "thin", desc := "()I" } : Jvm.MethodName)) ∈ lw_all := lw_g (lw_at lw_m1 99 rfl) rfl
theorem q110 : (Jvm.Cond.selects "ProducerBook" ({ cls := "ProducerBook", name := "thin", desc := "()I" } : Jvm.MethodName) ({ cls := "ProducerBook", name := "thin", desc := "()I" } : Jvm.MethodName)) ∈ lw_all := lw_g (lw_at lw_m1 100 rfl) rfl
theorem q111 : (Jvm.Cond.code ({ cls := "ProducerBook", name := "thin", desc := "()I" } : Jvm.MethodName) prog_1_method_10_code (3 : Nat) (Option.some Jvm.ClassFile.FieldType.int)) ∈ lw_all := lw_g (lw_at lw_m1 101 rfl) rfl
theorem q112 : (Jvm.Cond.methodLink "ProducerBook" (103 : Nat) ({ cls := "ProducerBook$Rows", name := "move", desc := "(II)V" } : Jvm.MethodName)) ∈ lw_all := lw_g (lw_at lw_m1 102 rfl) rfl
theorem q116 : (Jvm.Cond.methodLink "ProducerBook" (107 : Nat) ({ cls := "ProducerBook$Pages", name := "rewrite", desc := "()V" } : Jvm.MethodName)) ∈ lw_all := lw_g (lw_at lw_m1 106 rfl) rfl
theorem q139 : (Jvm.Cond.instanceMethod ({ cls := "ProducerBook", name := "offer", desc := "(JIII)I" } : Jvm.MethodName)) ∈ lw_all := lw_g (lw_at lw_m1 129 rfl) rfl
theorem q140 : (Jvm.Cond.selects "ProducerBook" ({ cls := "ProducerBook", name := "offer", desc := "(JIII)I" } : Jvm.MethodName) ({ cls := "ProducerBook", name := "offer", desc := "(JIII)I" } : Jvm.MethodName)) ∈ lw_all := lw_g (lw_at lw_m1 130 rfl) rfl
theorem q141 : (Jvm.Cond.code ({ cls := "ProducerBook", name := "offer", desc := "(JIII)I" } : Jvm.MethodName) prog_1_method_7_code (7 : Nat) (Option.some Jvm.ClassFile.FieldType.int)) ∈ lw_all := lw_g (lw_at lw_m1 131 rfl) rfl
theorem q142 : (Jvm.Cond.methodLink "ProducerBook" (80 : Nat) ({ cls := "ProducerBook", name := "isBatch", desc := "(JIII)V" } : Jvm.MethodName)) ∈ lw_all := lw_g (lw_at lw_m1 132 rfl) rfl
theorem q143 : (Jvm.Cond.static ({ cls := "ProducerBook", name := "isBatch", desc := "(JIII)V" } : Jvm.MethodName)) ∈ lw_all := lw_g (lw_at lw_m1 133 rfl) rfl
theorem q144 : (Jvm.Cond.code ({ cls := "ProducerBook", name := "isBatch", desc := "(JIII)V" } : Jvm.MethodName) prog_1_method_4_code (5 : Nat) (Option.none : Option Jvm.ClassFile.FieldType)) ∈ lw_all := lw_g (lw_at lw_m1 134 rfl) rfl
theorem q145 : (Jvm.Cond.constantLong "ProducerBook" (31 : Nat) (-1 : Int64)) ∈ lw_all := lw_g (lw_at lw_m1 135 rfl) rfl
theorem q146 : (Jvm.Cond.methodLink "ProducerBook" (33 : Nat) ({ cls := "ProducerBook", name := "need", desc := "(Z)V" } : Jvm.MethodName)) ∈ lw_all := lw_g (lw_at lw_m1 136 rfl) rfl
theorem q147 : (Jvm.Cond.static ({ cls := "ProducerBook", name := "need", desc := "(Z)V" } : Jvm.MethodName)) ∈ lw_all := lw_g (lw_at lw_m1 137 rfl) rfl
theorem q148 : (Jvm.Cond.code ({ cls := "ProducerBook", name := "need", desc := "(Z)V" } : Jvm.MethodName) prog_1_method_2_code (1 : Nat) (Option.none : Option Jvm.ClassFile.FieldType)) ∈ lw_all := lw_g (lw_at lw_m1 138 rfl) rfl
theorem q149 : (Jvm.Cond.classLink "ProducerBook" (25 : Nat) "java/lang/IllegalArgumentException") ∈ lw_all := lw_g (lw_at lw_m1 139 rfl) rfl
theorem q189 : (Jvm.Cond.methodLink "ProducerBook" (27 : Nat) ({ cls := "java/lang/IllegalArgumentException", name := "<init>", desc := "()V" } : Jvm.MethodName)) ∈ lw_all := lw_g (lw_at lw_m1 179 rfl) rfl
theorem q211 : (Jvm.Cond.methodLink "ProducerBook" (83 : Nat) ({ cls := "ProducerBook", name := "answer", desc := "(JIII)I" } : Jvm.MethodName)) ∈ lw_all := lw_g (lw_at lw_m1 201 rfl) rfl
theorem q212 : (Jvm.Cond.privateMethod ({ cls := "ProducerBook", name := "answer", desc := "(JIII)I" } : Jvm.MethodName)) ∈ lw_tbl := lw_at lw_m1 202 rfl
theorem q213 : (Jvm.Cond.instanceMethod ({ cls := "ProducerBook", name := "answer", desc := "(JIII)I" } : Jvm.MethodName)) ∈ lw_all := lw_g (lw_at lw_m1 203 rfl) rfl
theorem q214 : (Jvm.Cond.code ({ cls := "ProducerBook", name := "answer", desc := "(JIII)I" } : Jvm.MethodName) prog_1_method_5_code (10 : Nat) (Option.some Jvm.ClassFile.FieldType.int)) ∈ lw_all := lw_g (lw_at lw_m1 204 rfl) rfl
theorem q215 : (Jvm.Cond.methodLink "ProducerBook" (39 : Nat) ({ cls := "ProducerBook$Pages", name := "find", desc := "(J)I" } : Jvm.MethodName)) ∈ lw_all := lw_g (lw_at lw_m1 205 rfl) rfl
theorem q219 : (Jvm.Cond.methodLink "ProducerBook" (43 : Nat) ({ cls := "ProducerBook$Pages", name := "batch", desc := "(II)I" } : Jvm.MethodName)) ∈ lw_all := lw_g (lw_at lw_m1 209 rfl) rfl
theorem q223 : (Jvm.Cond.methodLink "ProducerBook" (51 : Nat) ({ cls := "ProducerBook$Pages", name := "known", desc := "(I)I" } : Jvm.MethodName)) ∈ lw_all := lw_g (lw_at lw_m1 213 rfl) rfl
theorem q230 : (Jvm.Cond.methodLink "ProducerBook" (65 : Nat) ({ cls := "ProducerBook$Rows", name := "next", desc := "(I)I" } : Jvm.MethodName)) ∈ lw_all := lw_g (lw_at lw_m1 220 rfl) rfl
theorem q235 : (Jvm.Cond.constant "ProducerBook" (90 : Nat) (1000000 : Int32)) ∈ lw_all := lw_g (lw_at lw_m1 225 rfl) rfl
theorem q236 : (Jvm.Cond.methodLink "ProducerBook" (91 : Nat) ({ cls := "ProducerBook", name := "may", desc := "(Z)V" } : Jvm.MethodName)) ∈ lw_all := lw_g (lw_at lw_m1 226 rfl) rfl
theorem q237 : (Jvm.Cond.static ({ cls := "ProducerBook", name := "may", desc := "(Z)V" } : Jvm.MethodName)) ∈ lw_all := lw_g (lw_at lw_m1 227 rfl) rfl
theorem q238 : (Jvm.Cond.code ({ cls := "ProducerBook", name := "may", desc := "(Z)V" } : Jvm.MethodName) prog_1_method_3_code (1 : Nat) (Option.none : Option Jvm.ClassFile.FieldType)) ∈ lw_all := lw_g (lw_at lw_m1 228 rfl) rfl
theorem q239 : (Jvm.Cond.classLink "ProducerBook" (28 : Nat) "java/lang/IllegalStateException") ∈ lw_all := lw_g (lw_at lw_m1 229 rfl) rfl
theorem q248 : (Jvm.Cond.methodLink "ProducerBook" (30 : Nat) ({ cls := "java/lang/IllegalStateException", name := "<init>", desc := "()V" } : Jvm.MethodName)) ∈ lw_all := lw_g (lw_at lw_m1 238 rfl) rfl
theorem q254 : (Jvm.Cond.methodLink "ProducerBook" (94 : Nat) ({ cls := "ProducerBook", name := "send", desc := "(JIII)I" } : Jvm.MethodName)) ∈ lw_all := lw_g (lw_at lw_m2 4 rfl) rfl
theorem q255 : (Jvm.Cond.privateMethod ({ cls := "ProducerBook", name := "send", desc := "(JIII)I" } : Jvm.MethodName)) ∈ lw_tbl := lw_at lw_m2 5 rfl
theorem q256 : (Jvm.Cond.instanceMethod ({ cls := "ProducerBook", name := "send", desc := "(JIII)I" } : Jvm.MethodName)) ∈ lw_all := lw_g (lw_at lw_m2 6 rfl) rfl
theorem q257 : (Jvm.Cond.code ({ cls := "ProducerBook", name := "send", desc := "(JIII)I" } : Jvm.MethodName) prog_1_method_6_code (6 : Nat) (Option.some Jvm.ClassFile.FieldType.int)) ∈ lw_all := lw_g (lw_at lw_m2 7 rfl) rfl
theorem q258 : (Jvm.Cond.methodLink "ProducerBook" (68 : Nat) ({ cls := "ProducerBook$Rows", name := "add", desc := "(JIII)V" } : Jvm.MethodName)) ∈ lw_all := lw_g (lw_at lw_m2 8 rfl) rfl
theorem q262 : (Jvm.Cond.methodLink "ProducerBook" (76 : Nat) ({ cls := "ProducerBook$Pages", name := "write", desc := "(I)V" } : Jvm.MethodName)) ∈ lw_all := lw_g (lw_at lw_m2 12 rfl) rfl
theorem q267 : (Jvm.Cond.instanceMethod ({ cls := "ProducerBook", name := "offers", desc := "(IJIII)I" } : Jvm.MethodName)) ∈ lw_all := lw_g (lw_at lw_m2 17 rfl) rfl
theorem q268 : (Jvm.Cond.selects "ProducerBook" ({ cls := "ProducerBook", name := "offers", desc := "(IJIII)I" } : Jvm.MethodName) ({ cls := "ProducerBook", name := "offers", desc := "(IJIII)I" } : Jvm.MethodName)) ∈ lw_all := lw_g (lw_at lw_m2 18 rfl) rfl
theorem q269 : (Jvm.Cond.code ({ cls := "ProducerBook", name := "offers", desc := "(IJIII)I" } : Jvm.MethodName) prog_1_method_8_code (11 : Nat) (Option.some Jvm.ClassFile.FieldType.int)) ∈ lw_all := lw_g (lw_at lw_m2 19 rfl) rfl
theorem q270 : (Jvm.Cond.constant "ProducerBook" (97 : Nat) (2147483647 : Int32)) ∈ lw_all := lw_g (lw_at lw_m2 20 rfl) rfl
theorem q275 : (Jvm.Cond.instanceMethod ({ cls := "ProducerBook", name := "drop", desc := "(I)I" } : Jvm.MethodName)) ∈ lw_all := lw_g (lw_at lw_m2 25 rfl) rfl
theorem q276 : (Jvm.Cond.selects "ProducerBook" ({ cls := "ProducerBook", name := "drop", desc := "(I)I" } : Jvm.MethodName) ({ cls := "ProducerBook", name := "drop", desc := "(I)I" } : Jvm.MethodName)) ∈ lw_all := lw_g (lw_at lw_m2 26 rfl) rfl
theorem q277 : (Jvm.Cond.code ({ cls := "ProducerBook", name := "drop", desc := "(I)I" } : Jvm.MethodName) prog_1_method_9_code (4 : Nat) (Option.some Jvm.ClassFile.FieldType.int)) ∈ lw_all := lw_g (lw_at lw_m2 27 rfl) rfl
theorem q278 : (Jvm.Cond.methodLink "ProducerBook" (98 : Nat) ({ cls := "java/lang/Math", name := "min", desc := "(II)I" } : Jvm.MethodName)) ∈ lw_all := lw_g (lw_at lw_m2 28 rfl) rfl
theorem q283 : (Jvm.Cond.instanceMethod ({ cls := "ProducerBook", name := "known", desc := "(JI)I" } : Jvm.MethodName)) ∈ lw_all := lw_g (lw_at lw_m2 33 rfl) rfl
theorem q284 : (Jvm.Cond.selects "ProducerBook" ({ cls := "ProducerBook", name := "known", desc := "(JI)I" } : Jvm.MethodName) ({ cls := "ProducerBook", name := "known", desc := "(JI)I" } : Jvm.MethodName)) ∈ lw_all := lw_g (lw_at lw_m2 34 rfl) rfl
theorem q285 : (Jvm.Cond.code ({ cls := "ProducerBook", name := "known", desc := "(JI)I" } : Jvm.MethodName) prog_1_method_11_code (6 : Nat) (Option.some Jvm.ClassFile.FieldType.int)) ∈ lw_all := lw_g (lw_at lw_m2 35 rfl) rfl
theorem q290 : (Jvm.Cond.instanceMethod ({ cls := "ProducerBook", name := "batch", desc := "(II)J" } : Jvm.MethodName)) ∈ lw_all := lw_g (lw_at lw_m2 40 rfl) rfl
theorem q291 : (Jvm.Cond.selects "ProducerBook" ({ cls := "ProducerBook", name := "batch", desc := "(II)J" } : Jvm.MethodName) ({ cls := "ProducerBook", name := "batch", desc := "(II)J" } : Jvm.MethodName)) ∈ lw_all := lw_g (lw_at lw_m2 41 rfl) rfl
theorem q292 : (Jvm.Cond.code ({ cls := "ProducerBook", name := "batch", desc := "(II)J" } : Jvm.MethodName) prog_1_method_12_code (3 : Nat) (Option.some Jvm.ClassFile.FieldType.long)) ∈ lw_all := lw_g (lw_at lw_m2 42 rfl) rfl
theorem q297 : (Jvm.Cond.instanceMethod ({ cls := "ProducerBook", name := "count", desc := "(I)I" } : Jvm.MethodName)) ∈ lw_all := lw_g (lw_at lw_m2 47 rfl) rfl
theorem q298 : (Jvm.Cond.selects "ProducerBook" ({ cls := "ProducerBook", name := "count", desc := "(I)I" } : Jvm.MethodName) ({ cls := "ProducerBook", name := "count", desc := "(I)I" } : Jvm.MethodName)) ∈ lw_all := lw_g (lw_at lw_m2 48 rfl) rfl
theorem q299 : (Jvm.Cond.code ({ cls := "ProducerBook", name := "count", desc := "(I)I" } : Jvm.MethodName) prog_1_method_13_code (2 : Nat) (Option.some Jvm.ClassFile.FieldType.int)) ∈ lw_all := lw_g (lw_at lw_m2 49 rfl) rfl
theorem in_X1 : ∀ w ∈ wsX10, w ∈ lw_all := lw_in wsX10 [103, 105] (by decide +kernel) (by decide +kernel)
/-! ProducerBook$Rows -/
def RX2 : String := "ProducerBook$Rows"
def TX2 : u_T := fun k => match k with
  | 0 => ("ProducerBook$Rows", "bases", "[I", true)
  | 1 => ("ProducerBook$Rows", "producers", "[J", true)
  | 2 => ("ProducerBook$Rows", "epochs", "[S", true)
  | 3 => ("ProducerBook$Rows", "sequences", "[I", true)
  | 4 => ("ProducerBook$Rows", "lasts", "[S", true)
  | 5 => ("ProducerBook$Rows", "known", "[Z", true)
  | 6 => ("ProducerBook$Rows", "count", "I", false)
  | _ => ("ProducerBook$Rows", "end", "I", false)
def tyX2 : Nat → FieldType := fun k => match k with
  | 0 => .array .int
  | 1 => .array .long
  | 2 => .array .short
  | 3 => .array .int
  | 4 => .array .short
  | 5 => .array .boolean
  | 6 => .int
  | _ => .int
abbrev wsX20 : List Cond := u_ws RX2 TX2 8
theorem nmX2 : ∀ a, a < 8 → ∀ b, b < 8 → a ≠ b → (TX2 a).2.1 ≠ (TX2 b).2.1 := by decide +kernel
theorem tyX2_ok : ∀ k, k < 8 → parseFieldDescriptor (TX2 k).2.2.1 = some (tyX2 k) := by decide +kernel
abbrev cX2_init : ByteArray := prog_3_method_1_code
def yX2_init : MethodName := ⟨RX2, "<init>", "()V"⟩
abbrev cX2_move : ByteArray := prog_3_method_3_code
def yX2_move : MethodName := ⟨RX2, "move", "(II)V"⟩
abbrev cX2_next : ByteArray := prog_3_method_4_code
def yX2_next : MethodName := ⟨RX2, "next", "(I)I"⟩
abbrev cX2_add : ByteArray := prog_3_method_2_code
def yX2_add : MethodName := ⟨RX2, "add", "(JIII)V"⟩
theorem q12 : (Jvm.Cond.initialized "ProducerBook$Rows") ∈ lw_all := lw_g (lw_at lw_m1 2 rfl) rfl
theorem q30 : (Jvm.Cond.instantiable "ProducerBook$Rows" (8 : Nat)) ∈ lw_all := lw_g (lw_at lw_m1 20 rfl) rfl
theorem q32 : (Jvm.Cond.instanceMethod ({ cls := "ProducerBook$Rows", name := "<init>", desc := "()V" } : Jvm.MethodName)) ∈ lw_all := lw_g (lw_at lw_m1 22 rfl) rfl
theorem q33 : (Jvm.Cond.code ({ cls := "ProducerBook$Rows", name := "<init>", desc := "()V" } : Jvm.MethodName) prog_3_method_1_code (1 : Nat) (Option.none : Option Jvm.ClassFile.FieldType)) ∈ lw_all := lw_g (lw_at lw_m1 23 rfl) rfl
theorem q34 : (Jvm.Cond.methodLink "ProducerBook$Rows" (1 : Nat) ({ cls := "java/lang/Object", name := "<init>", desc := "()V" } : Jvm.MethodName)) ∈ lw_all := lw_g (lw_at lw_m1 24 rfl) rfl
theorem q35 : (Jvm.Cond.fieldLink "ProducerBook$Rows" (7 : Nat) "ProducerBook$Rows" "bases" "[I") ∈ lw_all := lw_g (lw_at lw_m1 25 rfl) rfl
theorem q37 : (Jvm.Cond.fieldLink "ProducerBook$Rows" (13 : Nat) "ProducerBook$Rows" "producers" "[J") ∈ lw_all := lw_g (lw_at lw_m1 27 rfl) rfl
theorem q40 : (Jvm.Cond.fieldLink "ProducerBook$Rows" (17 : Nat) "ProducerBook$Rows" "epochs" "[S") ∈ lw_all := lw_g (lw_at lw_m1 30 rfl) rfl
theorem q42 : (Jvm.Cond.fieldLink "ProducerBook$Rows" (21 : Nat) "ProducerBook$Rows" "sequences" "[I") ∈ lw_all := lw_g (lw_at lw_m1 32 rfl) rfl
theorem q44 : (Jvm.Cond.fieldLink "ProducerBook$Rows" (24 : Nat) "ProducerBook$Rows" "lasts" "[S") ∈ lw_all := lw_g (lw_at lw_m1 34 rfl) rfl
theorem q46 : (Jvm.Cond.fieldLink "ProducerBook$Rows" (27 : Nat) "ProducerBook$Rows" "known" "[Z") ∈ lw_all := lw_g (lw_at lw_m1 36 rfl) rfl
theorem q49 : (Jvm.Cond.fieldLink "ProducerBook$Rows" (31 : Nat) "ProducerBook$Rows" "count" "I") ∈ lw_all := lw_g (lw_at lw_m1 39 rfl) rfl
theorem q52 : (Jvm.Cond.fieldLink "ProducerBook$Rows" (35 : Nat) "ProducerBook$Rows" "end" "I") ∈ lw_all := lw_g (lw_at lw_m1 42 rfl) rfl
theorem q54 : (Jvm.Cond.laysFinal "ProducerBook$Rows" "ProducerBook$Rows" "bases" "[I") ∈ lw_all := lw_g (lw_at lw_m1 44 rfl) rfl
theorem q55 : (Jvm.Cond.soleField "ProducerBook$Rows" "bases") ∈ lw_all := lw_g (lw_at lw_m1 45 rfl) rfl
theorem q56 : (Jvm.Cond.laysFinal "ProducerBook$Rows" "ProducerBook$Rows" "producers" "[J") ∈ lw_all := lw_g (lw_at lw_m1 46 rfl) rfl
theorem q57 : (Jvm.Cond.soleField "ProducerBook$Rows" "producers") ∈ lw_all := lw_g (lw_at lw_m1 47 rfl) rfl
theorem q58 : (Jvm.Cond.laysFinal "ProducerBook$Rows" "ProducerBook$Rows" "epochs" "[S") ∈ lw_all := lw_g (lw_at lw_m1 48 rfl) rfl
theorem q59 : (Jvm.Cond.soleField "ProducerBook$Rows" "epochs") ∈ lw_all := lw_g (lw_at lw_m1 49 rfl) rfl
theorem q60 : (Jvm.Cond.laysFinal "ProducerBook$Rows" "ProducerBook$Rows" "sequences" "[I") ∈ lw_all := lw_g (lw_at lw_m1 50 rfl) rfl
theorem q61 : (Jvm.Cond.soleField "ProducerBook$Rows" "sequences") ∈ lw_all := lw_g (lw_at lw_m1 51 rfl) rfl
theorem q62 : (Jvm.Cond.laysFinal "ProducerBook$Rows" "ProducerBook$Rows" "lasts" "[S") ∈ lw_all := lw_g (lw_at lw_m1 52 rfl) rfl
theorem q63 : (Jvm.Cond.soleField "ProducerBook$Rows" "lasts") ∈ lw_all := lw_g (lw_at lw_m1 53 rfl) rfl
theorem q64 : (Jvm.Cond.laysFinal "ProducerBook$Rows" "ProducerBook$Rows" "known" "[Z") ∈ lw_all := lw_g (lw_at lw_m1 54 rfl) rfl
theorem q65 : (Jvm.Cond.soleField "ProducerBook$Rows" "known") ∈ lw_all := lw_g (lw_at lw_m1 55 rfl) rfl
theorem q66 : (Jvm.Cond.lays "ProducerBook$Rows" "ProducerBook$Rows" "count" "I") ∈ lw_all := lw_g (lw_at lw_m1 56 rfl) rfl
theorem q67 : (Jvm.Cond.soleField "ProducerBook$Rows" "count") ∈ lw_all := lw_g (lw_at lw_m1 57 rfl) rfl
theorem q68 : (Jvm.Cond.lays "ProducerBook$Rows" "ProducerBook$Rows" "end" "I") ∈ lw_all := lw_g (lw_at lw_m1 58 rfl) rfl
theorem q69 : (Jvm.Cond.soleField "ProducerBook$Rows" "end") ∈ lw_all := lw_g (lw_at lw_m1 59 rfl) rfl
theorem q70 : (Jvm.Cond.superclass "ProducerBook$Rows" "java/lang/Object") ∈ lw_all := lw_g (lw_at lw_m1 60 rfl) rfl
theorem q113 : (Jvm.Cond.instanceMethod ({ cls := "ProducerBook$Rows", name := "move", desc := "(II)V" } : Jvm.MethodName)) ∈ lw_all := lw_g (lw_at lw_m1 103 rfl) rfl
theorem q114 : (Jvm.Cond.selects "ProducerBook$Rows" ({ cls := "ProducerBook$Rows", name := "move", desc := "(II)V" } : Jvm.MethodName) ({ cls := "ProducerBook$Rows", name := "move", desc := "(II)V" } : Jvm.MethodName)) ∈ lw_all := lw_g (lw_at lw_m1 104 rfl) rfl
theorem q115 : (Jvm.Cond.code ({ cls := "ProducerBook$Rows", name := "move", desc := "(II)V" } : Jvm.MethodName) prog_3_method_3_code (3 : Nat) (Option.none : Option Jvm.ClassFile.FieldType)) ∈ lw_all := lw_g (lw_at lw_m1 105 rfl) rfl
theorem q231 : (Jvm.Cond.instanceMethod ({ cls := "ProducerBook$Rows", name := "next", desc := "(I)I" } : Jvm.MethodName)) ∈ lw_all := lw_g (lw_at lw_m1 221 rfl) rfl
theorem q232 : (Jvm.Cond.selects "ProducerBook$Rows" ({ cls := "ProducerBook$Rows", name := "next", desc := "(I)I" } : Jvm.MethodName) ({ cls := "ProducerBook$Rows", name := "next", desc := "(I)I" } : Jvm.MethodName)) ∈ lw_all := lw_g (lw_at lw_m1 222 rfl) rfl
theorem q233 : (Jvm.Cond.code ({ cls := "ProducerBook$Rows", name := "next", desc := "(I)I" } : Jvm.MethodName) prog_3_method_4_code (2 : Nat) (Option.some Jvm.ClassFile.FieldType.int)) ∈ lw_all := lw_g (lw_at lw_m1 223 rfl) rfl
theorem q234 : (Jvm.Cond.constant "ProducerBook$Rows" (38 : Nat) (2147483647 : Int32)) ∈ lw_all := lw_g (lw_at lw_m1 224 rfl) rfl
theorem q259 : (Jvm.Cond.instanceMethod ({ cls := "ProducerBook$Rows", name := "add", desc := "(JIII)V" } : Jvm.MethodName)) ∈ lw_all := lw_g (lw_at lw_m2 9 rfl) rfl
theorem q260 : (Jvm.Cond.selects "ProducerBook$Rows" ({ cls := "ProducerBook$Rows", name := "add", desc := "(JIII)V" } : Jvm.MethodName) ({ cls := "ProducerBook$Rows", name := "add", desc := "(JIII)V" } : Jvm.MethodName)) ∈ lw_all := lw_g (lw_at lw_m2 10 rfl) rfl
theorem q261 : (Jvm.Cond.code ({ cls := "ProducerBook$Rows", name := "add", desc := "(JIII)V" } : Jvm.MethodName) prog_3_method_2_code (6 : Nat) (Option.none : Option Jvm.ClassFile.FieldType)) ∈ lw_all := lw_g (lw_at lw_m2 11 rfl) rfl
theorem in_X2 : ∀ w ∈ wsX20, w ∈ lw_all := lw_in wsX20 [54, 56, 58, 60, 62, 64, 66, 68] (by decide +kernel) (by decide +kernel)
/-! ProducerBook$Pages -/
def RX3 : String := "ProducerBook$Pages"
def TX3 : u_T := fun k => match k with
  | 0 => ("ProducerBook$Pages", "rows", "LProducerBook$Rows;", true)
  | 1 => ("ProducerBook$Pages", "table", "[S", true)
  | 2 => ("ProducerBook$Pages", "owners", "[J", true)
  | 3 => ("ProducerBook$Pages", "latest", "[S", true)
  | 4 => ("ProducerBook$Pages", "written", "[I", true)
  | _ => ("ProducerBook$Pages", "count", "I", false)
def tyX3 : Nat → FieldType := fun k => match k with
  | 0 => .object "ProducerBook$Rows"
  | 1 => .array .short
  | 2 => .array .long
  | 3 => .array .short
  | 4 => .array .int
  | _ => .int
abbrev wsX30 : List Cond := u_ws RX3 TX3 6
theorem nmX3 : ∀ a, a < 6 → ∀ b, b < 6 → a ≠ b → (TX3 a).2.1 ≠ (TX3 b).2.1 := by decide +kernel
theorem tyX3_ok : ∀ k, k < 6 → parseFieldDescriptor (TX3 k).2.2.1 = some (tyX3 k) := by decide +kernel
abbrev cX3_init : ByteArray := prog_2_method_1_code
def yX3_init : MethodName := ⟨RX3, "<init>", "(LProducerBook$Rows;)V"⟩
abbrev cX3_rewrite : ByteArray := prog_2_method_8_code
def yX3_rewrite : MethodName := ⟨RX3, "rewrite", "()V"⟩
abbrev cX3_write : ByteArray := prog_2_method_7_code
def yX3_write : MethodName := ⟨RX3, "write", "(I)V"⟩
abbrev cX3_slot : ByteArray := prog_2_method_3_code
def yX3_slot : MethodName := ⟨RX3, "slot", "(J)I"⟩
abbrev cX3_mix : ByteArray := prog_2_method_2_code
def yX3_mix : MethodName := ⟨RX3, "mix", "(J)I"⟩
abbrev cX3_find : ByteArray := prog_2_method_4_code
def yX3_find : MethodName := ⟨RX3, "find", "(J)I"⟩
abbrev cX3_batch : ByteArray := prog_2_method_6_code
def yX3_batch : MethodName := ⟨RX3, "batch", "(II)I"⟩
abbrev cX3_known : ByteArray := prog_2_method_5_code
def yX3_known : MethodName := ⟨RX3, "known", "(I)I"⟩
theorem q13 : (Jvm.Cond.initialized "ProducerBook$Pages") ∈ lw_all := lw_g (lw_at lw_m1 3 rfl) rfl
theorem q38 : (Jvm.Cond.fieldLink "ProducerBook$Pages" (45 : Nat) "ProducerBook$Rows" "producers" "[J") ∈ lw_all := lw_g (lw_at lw_m1 28 rfl) rfl
theorem q47 : (Jvm.Cond.fieldLink "ProducerBook$Pages" (56 : Nat) "ProducerBook$Rows" "known" "[Z") ∈ lw_all := lw_g (lw_at lw_m1 37 rfl) rfl
theorem q51 : (Jvm.Cond.fieldLink "ProducerBook$Pages" (60 : Nat) "ProducerBook$Rows" "count" "I") ∈ lw_all := lw_g (lw_at lw_m1 41 rfl) rfl
theorem q76 : (Jvm.Cond.instantiable "ProducerBook$Pages" (6 : Nat)) ∈ lw_all := lw_g (lw_at lw_m1 66 rfl) rfl
theorem q78 : (Jvm.Cond.instanceMethod ({ cls := "ProducerBook$Pages", name := "<init>", desc := "(LProducerBook$Rows;)V" } : Jvm.MethodName)) ∈ lw_all := lw_g (lw_at lw_m1 68 rfl) rfl
theorem q79 : (Jvm.Cond.code ({ cls := "ProducerBook$Pages", name := "<init>", desc := "(LProducerBook$Rows;)V" } : Jvm.MethodName) prog_2_method_1_code (2 : Nat) (Option.none : Option Jvm.ClassFile.FieldType)) ∈ lw_all := lw_g (lw_at lw_m1 69 rfl) rfl
theorem q80 : (Jvm.Cond.methodLink "ProducerBook$Pages" (3 : Nat) ({ cls := "java/lang/Object", name := "<init>", desc := "()V" } : Jvm.MethodName)) ∈ lw_all := lw_g (lw_at lw_m1 70 rfl) rfl
theorem q81 : (Jvm.Cond.fieldLink "ProducerBook$Pages" (26 : Nat) "ProducerBook$Pages" "rows" "LProducerBook$Rows;") ∈ lw_all := lw_g (lw_at lw_m1 71 rfl) rfl
theorem q82 : (Jvm.Cond.fieldLink "ProducerBook$Pages" (9 : Nat) "ProducerBook$Pages" "table" "[S") ∈ lw_all := lw_g (lw_at lw_m1 72 rfl) rfl
theorem q83 : (Jvm.Cond.fieldLink "ProducerBook$Pages" (15 : Nat) "ProducerBook$Pages" "owners" "[J") ∈ lw_all := lw_g (lw_at lw_m1 73 rfl) rfl
theorem q84 : (Jvm.Cond.fieldLink "ProducerBook$Pages" (19 : Nat) "ProducerBook$Pages" "latest" "[S") ∈ lw_all := lw_g (lw_at lw_m1 74 rfl) rfl
theorem q85 : (Jvm.Cond.fieldLink "ProducerBook$Pages" (22 : Nat) "ProducerBook$Pages" "written" "[I") ∈ lw_all := lw_g (lw_at lw_m1 75 rfl) rfl
theorem q86 : (Jvm.Cond.fieldLink "ProducerBook$Pages" (52 : Nat) "ProducerBook$Pages" "count" "I") ∈ lw_all := lw_g (lw_at lw_m1 76 rfl) rfl
theorem q88 : (Jvm.Cond.laysFinal "ProducerBook$Pages" "ProducerBook$Pages" "rows" "LProducerBook$Rows;") ∈ lw_all := lw_g (lw_at lw_m1 78 rfl) rfl
theorem q89 : (Jvm.Cond.soleField "ProducerBook$Pages" "rows") ∈ lw_all := lw_g (lw_at lw_m1 79 rfl) rfl
theorem q90 : (Jvm.Cond.laysFinal "ProducerBook$Pages" "ProducerBook$Pages" "table" "[S") ∈ lw_all := lw_g (lw_at lw_m1 80 rfl) rfl
theorem q91 : (Jvm.Cond.soleField "ProducerBook$Pages" "table") ∈ lw_all := lw_g (lw_at lw_m1 81 rfl) rfl
theorem q92 : (Jvm.Cond.laysFinal "ProducerBook$Pages" "ProducerBook$Pages" "owners" "[J") ∈ lw_all := lw_g (lw_at lw_m1 82 rfl) rfl
theorem q93 : (Jvm.Cond.soleField "ProducerBook$Pages" "owners") ∈ lw_all := lw_g (lw_at lw_m1 83 rfl) rfl
theorem q94 : (Jvm.Cond.laysFinal "ProducerBook$Pages" "ProducerBook$Pages" "latest" "[S") ∈ lw_all := lw_g (lw_at lw_m1 84 rfl) rfl
theorem q95 : (Jvm.Cond.soleField "ProducerBook$Pages" "latest") ∈ lw_all := lw_g (lw_at lw_m1 85 rfl) rfl
theorem q96 : (Jvm.Cond.laysFinal "ProducerBook$Pages" "ProducerBook$Pages" "written" "[I") ∈ lw_all := lw_g (lw_at lw_m1 86 rfl) rfl
theorem q97 : (Jvm.Cond.soleField "ProducerBook$Pages" "written") ∈ lw_all := lw_g (lw_at lw_m1 87 rfl) rfl
theorem q98 : (Jvm.Cond.lays "ProducerBook$Pages" "ProducerBook$Pages" "count" "I") ∈ lw_all := lw_g (lw_at lw_m1 88 rfl) rfl
theorem q99 : (Jvm.Cond.soleField "ProducerBook$Pages" "count") ∈ lw_all := lw_g (lw_at lw_m1 89 rfl) rfl
theorem q100 : (Jvm.Cond.superclass "ProducerBook$Pages" "java/lang/Object") ∈ lw_all := lw_g (lw_at lw_m1 90 rfl) rfl
theorem q117 : (Jvm.Cond.instanceMethod ({ cls := "ProducerBook$Pages", name := "rewrite", desc := "()V" } : Jvm.MethodName)) ∈ lw_all := lw_g (lw_at lw_m1 107 rfl) rfl
theorem q118 : (Jvm.Cond.selects "ProducerBook$Pages" ({ cls := "ProducerBook$Pages", name := "rewrite", desc := "()V" } : Jvm.MethodName) ({ cls := "ProducerBook$Pages", name := "rewrite", desc := "()V" } : Jvm.MethodName)) ∈ lw_all := lw_g (lw_at lw_m1 108 rfl) rfl
theorem q119 : (Jvm.Cond.code ({ cls := "ProducerBook$Pages", name := "rewrite", desc := "()V" } : Jvm.MethodName) prog_2_method_8_code (2 : Nat) (Option.none : Option Jvm.ClassFile.FieldType)) ∈ lw_all := lw_g (lw_at lw_m1 109 rfl) rfl
theorem q120 : (Jvm.Cond.methodLink "ProducerBook$Pages" (61 : Nat) ({ cls := "ProducerBook$Pages", name := "write", desc := "(I)V" } : Jvm.MethodName)) ∈ lw_all := lw_g (lw_at lw_m1 110 rfl) rfl
theorem q121 : (Jvm.Cond.instanceMethod ({ cls := "ProducerBook$Pages", name := "write", desc := "(I)V" } : Jvm.MethodName)) ∈ lw_all := lw_g (lw_at lw_m1 111 rfl) rfl
theorem q122 : (Jvm.Cond.selects "ProducerBook$Pages" ({ cls := "ProducerBook$Pages", name := "write", desc := "(I)V" } : Jvm.MethodName) ({ cls := "ProducerBook$Pages", name := "write", desc := "(I)V" } : Jvm.MethodName)) ∈ lw_all := lw_g (lw_at lw_m1 112 rfl) rfl
theorem q123 : (Jvm.Cond.code ({ cls := "ProducerBook$Pages", name := "write", desc := "(I)V" } : Jvm.MethodName) prog_2_method_7_code (7 : Nat) (Option.none : Option Jvm.ClassFile.FieldType)) ∈ lw_all := lw_g (lw_at lw_m1 113 rfl) rfl
theorem q124 : (Jvm.Cond.constantLong "ProducerBook$Pages" (50 : Nat) (-1 : Int64)) ∈ lw_all := lw_g (lw_at lw_m1 114 rfl) rfl
theorem q125 : (Jvm.Cond.methodLink "ProducerBook$Pages" (36 : Nat) ({ cls := "ProducerBook$Pages", name := "slot", desc := "(J)I" } : Jvm.MethodName)) ∈ lw_all := lw_g (lw_at lw_m1 115 rfl) rfl
theorem q126 : (Jvm.Cond.privateMethod ({ cls := "ProducerBook$Pages", name := "slot", desc := "(J)I" } : Jvm.MethodName)) ∈ lw_tbl := lw_at lw_m1 116 rfl
theorem q127 : (Jvm.Cond.instanceMethod ({ cls := "ProducerBook$Pages", name := "slot", desc := "(J)I" } : Jvm.MethodName)) ∈ lw_all := lw_g (lw_at lw_m1 117 rfl) rfl
theorem q128 : (Jvm.Cond.code ({ cls := "ProducerBook$Pages", name := "slot", desc := "(J)I" } : Jvm.MethodName) prog_2_method_3_code (4 : Nat) (Option.some Jvm.ClassFile.FieldType.int)) ∈ lw_all := lw_g (lw_at lw_m1 118 rfl) rfl
theorem q129 : (Jvm.Cond.methodLink "ProducerBook$Pages" (32 : Nat) ({ cls := "ProducerBook$Pages", name := "mix", desc := "(J)I" } : Jvm.MethodName)) ∈ lw_all := lw_g (lw_at lw_m1 119 rfl) rfl
theorem q130 : (Jvm.Cond.static ({ cls := "ProducerBook$Pages", name := "mix", desc := "(J)I" } : Jvm.MethodName)) ∈ lw_all := lw_g (lw_at lw_m1 120 rfl) rfl
theorem q131 : (Jvm.Cond.code ({ cls := "ProducerBook$Pages", name := "mix", desc := "(J)I" } : Jvm.MethodName) prog_2_method_2_code (4 : Nat) (Option.some Jvm.ClassFile.FieldType.int)) ∈ lw_all := lw_g (lw_at lw_m1 121 rfl) rfl
theorem q132 : (Jvm.Cond.constantLong "ProducerBook$Pages" (30 : Nat) (-7046029254386353131 : Int64)) ∈ lw_all := lw_g (lw_at lw_m1 122 rfl) rfl
theorem q216 : (Jvm.Cond.instanceMethod ({ cls := "ProducerBook$Pages", name := "find", desc := "(J)I" } : Jvm.MethodName)) ∈ lw_all := lw_g (lw_at lw_m1 206 rfl) rfl
theorem q217 : (Jvm.Cond.selects "ProducerBook$Pages" ({ cls := "ProducerBook$Pages", name := "find", desc := "(J)I" } : Jvm.MethodName) ({ cls := "ProducerBook$Pages", name := "find", desc := "(J)I" } : Jvm.MethodName)) ∈ lw_all := lw_g (lw_at lw_m1 207 rfl) rfl
theorem q218 : (Jvm.Cond.code ({ cls := "ProducerBook$Pages", name := "find", desc := "(J)I" } : Jvm.MethodName) prog_2_method_4_code (3 : Nat) (Option.some Jvm.ClassFile.FieldType.int)) ∈ lw_all := lw_g (lw_at lw_m1 208 rfl) rfl
theorem q220 : (Jvm.Cond.instanceMethod ({ cls := "ProducerBook$Pages", name := "batch", desc := "(II)I" } : Jvm.MethodName)) ∈ lw_all := lw_g (lw_at lw_m1 210 rfl) rfl
theorem q221 : (Jvm.Cond.selects "ProducerBook$Pages" ({ cls := "ProducerBook$Pages", name := "batch", desc := "(II)I" } : Jvm.MethodName) ({ cls := "ProducerBook$Pages", name := "batch", desc := "(II)I" } : Jvm.MethodName)) ∈ lw_all := lw_g (lw_at lw_m1 211 rfl) rfl
theorem q222 : (Jvm.Cond.code ({ cls := "ProducerBook$Pages", name := "batch", desc := "(II)I" } : Jvm.MethodName) prog_2_method_6_code (3 : Nat) (Option.some Jvm.ClassFile.FieldType.int)) ∈ lw_all := lw_g (lw_at lw_m1 212 rfl) rfl
theorem q224 : (Jvm.Cond.instanceMethod ({ cls := "ProducerBook$Pages", name := "known", desc := "(I)I" } : Jvm.MethodName)) ∈ lw_all := lw_g (lw_at lw_m1 214 rfl) rfl
theorem q225 : (Jvm.Cond.selects "ProducerBook$Pages" ({ cls := "ProducerBook$Pages", name := "known", desc := "(I)I" } : Jvm.MethodName) ({ cls := "ProducerBook$Pages", name := "known", desc := "(I)I" } : Jvm.MethodName)) ∈ lw_all := lw_g (lw_at lw_m1 215 rfl) rfl
theorem q226 : (Jvm.Cond.code ({ cls := "ProducerBook$Pages", name := "known", desc := "(I)I" } : Jvm.MethodName) prog_2_method_5_code (2 : Nat) (Option.some Jvm.ClassFile.FieldType.int)) ∈ lw_all := lw_g (lw_at lw_m1 216 rfl) rfl
theorem q227 : (Jvm.Cond.methodLink "ProducerBook$Pages" (39 : Nat) ({ cls := "java/lang/Math", name := "min", desc := "(II)I" } : Jvm.MethodName)) ∈ lw_all := lw_g (lw_at lw_m1 217 rfl) rfl
theorem in_X3 : ∀ w ∈ wsX30, w ∈ lw_all := lw_in wsX30 [88, 90, 92, 94, 96, 98] (by decide +kernel) (by decide +kernel)
/-! ProducerBookModel -/
def RX4 : String := "ProducerBookModel"
def TX4 : u_T := fun k => match k with
  | 0 => ("ProducerBookModel", "code", "I", false)
  | 1 => ("ProducerBookModel", "count", "I", false)
  | 2 => ("ProducerBookModel", "end", "I", false)
  | 3 => ("ProducerBookModel", "base", "[I", true)
  | 4 => ("ProducerBookModel", "producer", "[J", true)
  | 5 => ("ProducerBookModel", "epoch", "[I", true)
  | 6 => ("ProducerBookModel", "sequence", "[I", true)
  | _ => ("ProducerBookModel", "last", "[I", true)
def tyX4 : Nat → FieldType := fun k => match k with
  | 0 => .int
  | 1 => .int
  | 2 => .int
  | 3 => .array .int
  | 4 => .array .long
  | 5 => .array .int
  | 6 => .array .int
  | _ => .array .int
abbrev wsX40 : List Cond := u_ws RX4 TX4 8
theorem nmX4 : ∀ a, a < 8 → ∀ b, b < 8 → a ≠ b → (TX4 a).2.1 ≠ (TX4 b).2.1 := by decide +kernel
theorem tyX4_ok : ∀ k, k < 8 → parseFieldDescriptor (TX4 k).2.2.1 = some (tyX4 k) := by decide +kernel
abbrev cX4_init : ByteArray := prog_5_method_1_code
def yX4_init : MethodName := ⟨RX4, "<init>", "()V"⟩
abbrev cX4_thrown : ByteArray := prog_5_method_2_code
def yX4_thrown : MethodName := ⟨RX4, "thrown", "()I"⟩
abbrev cX4_offer : ByteArray := prog_5_method_8_code
def yX4_offer : MethodName := ⟨RX4, "offer", "(JIII)I"⟩
abbrev cX4_isBatch : ByteArray := prog_5_method_3_code
def yX4_isBatch : MethodName := ⟨RX4, "isBatch", "(JIII)Z"⟩
abbrev cX4_judged : ByteArray := prog_5_method_6_code
def yX4_judged : MethodName := ⟨RX4, "judged", "(JIII)I"⟩
abbrev cX4_knownOne : ByteArray := prog_5_method_4_code
def yX4_knownOne : MethodName := ⟨RX4, "knownOne", "(JI)I"⟩
abbrev cX4_after : ByteArray := prog_5_method_5_code
def yX4_after : MethodName := ⟨RX4, "after", "(II)I"⟩
abbrev cX4_come : ByteArray := prog_5_method_7_code
def yX4_come : MethodName := ⟨RX4, "come", "(JIII)V"⟩
abbrev cX4_offers : ByteArray := prog_5_method_9_code
def yX4_offers : MethodName := ⟨RX4, "offers", "(IJIII)I"⟩
abbrev cX4_drop : ByteArray := prog_5_method_11_code
def yX4_drop : MethodName := ⟨RX4, "drop", "(I)I"⟩
abbrev cX4_copy : ByteArray := prog_5_method_10_code
def yX4_copy : MethodName := ⟨RX4, "copy", "(II)V"⟩
abbrev cX4_thin : ByteArray := prog_5_method_14_code
def yX4_thin : MethodName := ⟨RX4, "thin", "()I"⟩
abbrev cX4_isKnown : ByteArray := prog_5_method_13_code
def yX4_isKnown : MethodName := ⟨RX4, "isKnown", "(I)Z"⟩
abbrev cX4_laterOnes : ByteArray := prog_5_method_12_code
def yX4_laterOnes : MethodName := ⟨RX4, "laterOnes", "(I)I"⟩
abbrev cX4_known : ByteArray := prog_5_method_15_code
def yX4_known : MethodName := ⟨RX4, "known", "(JI)I"⟩
abbrev cX4_batch : ByteArray := prog_5_method_16_code
def yX4_batch : MethodName := ⟨RX4, "batch", "(II)J"⟩
abbrev cX4_count : ByteArray := prog_5_method_17_code
def yX4_count : MethodName := ⟨RX4, "count", "(I)I"⟩
theorem q14 : (Jvm.Cond.initialized "ProducerBookModel") ∈ lw_all := lw_g (lw_at lw_m1 4 rfl) rfl
theorem q301 : (Jvm.Cond.instantiable "ProducerBookModel" (8 : Nat)) ∈ lw_all := lw_g (lw_at lw_m2 51 rfl) rfl
theorem q303 : (Jvm.Cond.instanceMethod ({ cls := "ProducerBookModel", name := "<init>", desc := "()V" } : Jvm.MethodName)) ∈ lw_all := lw_g (lw_at lw_m2 53 rfl) rfl
theorem q304 : (Jvm.Cond.code ({ cls := "ProducerBookModel", name := "<init>", desc := "()V" } : Jvm.MethodName) prog_5_method_1_code (1 : Nat) (Option.none : Option Jvm.ClassFile.FieldType)) ∈ lw_all := lw_g (lw_at lw_m2 54 rfl) rfl
theorem q305 : (Jvm.Cond.methodLink "ProducerBookModel" (1 : Nat) ({ cls := "java/lang/Object", name := "<init>", desc := "()V" } : Jvm.MethodName)) ∈ lw_all := lw_g (lw_at lw_m2 55 rfl) rfl
theorem q306 : (Jvm.Cond.fieldLink "ProducerBookModel" (26 : Nat) "ProducerBookModel" "code" "I") ∈ lw_all := lw_g (lw_at lw_m2 56 rfl) rfl
theorem q307 : (Jvm.Cond.fieldLink "ProducerBookModel" (32 : Nat) "ProducerBookModel" "count" "I") ∈ lw_all := lw_g (lw_at lw_m2 57 rfl) rfl
theorem q308 : (Jvm.Cond.fieldLink "ProducerBookModel" (45 : Nat) "ProducerBookModel" "end" "I") ∈ lw_all := lw_g (lw_at lw_m2 58 rfl) rfl
theorem q309 : (Jvm.Cond.fieldLink "ProducerBookModel" (7 : Nat) "ProducerBookModel" "base" "[I") ∈ lw_all := lw_g (lw_at lw_m2 59 rfl) rfl
theorem q310 : (Jvm.Cond.fieldLink "ProducerBookModel" (13 : Nat) "ProducerBookModel" "producer" "[J") ∈ lw_all := lw_g (lw_at lw_m2 60 rfl) rfl
theorem q311 : (Jvm.Cond.fieldLink "ProducerBookModel" (17 : Nat) "ProducerBookModel" "epoch" "[I") ∈ lw_all := lw_g (lw_at lw_m2 61 rfl) rfl
theorem q312 : (Jvm.Cond.fieldLink "ProducerBookModel" (20 : Nat) "ProducerBookModel" "sequence" "[I") ∈ lw_all := lw_g (lw_at lw_m2 62 rfl) rfl
theorem q313 : (Jvm.Cond.fieldLink "ProducerBookModel" (23 : Nat) "ProducerBookModel" "last" "[I") ∈ lw_all := lw_g (lw_at lw_m2 63 rfl) rfl
theorem q314 : (Jvm.Cond.lays "ProducerBookModel" "ProducerBookModel" "code" "I") ∈ lw_all := lw_g (lw_at lw_m2 64 rfl) rfl
theorem q315 : (Jvm.Cond.soleField "ProducerBookModel" "code") ∈ lw_all := lw_g (lw_at lw_m2 65 rfl) rfl
theorem q316 : (Jvm.Cond.lays "ProducerBookModel" "ProducerBookModel" "count" "I") ∈ lw_all := lw_g (lw_at lw_m2 66 rfl) rfl
theorem q317 : (Jvm.Cond.soleField "ProducerBookModel" "count") ∈ lw_all := lw_g (lw_at lw_m2 67 rfl) rfl
theorem q318 : (Jvm.Cond.lays "ProducerBookModel" "ProducerBookModel" "end" "I") ∈ lw_all := lw_g (lw_at lw_m2 68 rfl) rfl
theorem q319 : (Jvm.Cond.soleField "ProducerBookModel" "end") ∈ lw_all := lw_g (lw_at lw_m2 69 rfl) rfl
theorem q320 : (Jvm.Cond.laysFinal "ProducerBookModel" "ProducerBookModel" "base" "[I") ∈ lw_all := lw_g (lw_at lw_m2 70 rfl) rfl
theorem q321 : (Jvm.Cond.soleField "ProducerBookModel" "base") ∈ lw_all := lw_g (lw_at lw_m2 71 rfl) rfl
theorem q322 : (Jvm.Cond.laysFinal "ProducerBookModel" "ProducerBookModel" "producer" "[J") ∈ lw_all := lw_g (lw_at lw_m2 72 rfl) rfl
theorem q323 : (Jvm.Cond.soleField "ProducerBookModel" "producer") ∈ lw_all := lw_g (lw_at lw_m2 73 rfl) rfl
theorem q324 : (Jvm.Cond.laysFinal "ProducerBookModel" "ProducerBookModel" "epoch" "[I") ∈ lw_all := lw_g (lw_at lw_m2 74 rfl) rfl
theorem q325 : (Jvm.Cond.soleField "ProducerBookModel" "epoch") ∈ lw_all := lw_g (lw_at lw_m2 75 rfl) rfl
theorem q326 : (Jvm.Cond.laysFinal "ProducerBookModel" "ProducerBookModel" "sequence" "[I") ∈ lw_all := lw_g (lw_at lw_m2 76 rfl) rfl
theorem q327 : (Jvm.Cond.soleField "ProducerBookModel" "sequence") ∈ lw_all := lw_g (lw_at lw_m2 77 rfl) rfl
theorem q328 : (Jvm.Cond.laysFinal "ProducerBookModel" "ProducerBookModel" "last" "[I") ∈ lw_all := lw_g (lw_at lw_m2 78 rfl) rfl
theorem q329 : (Jvm.Cond.soleField "ProducerBookModel" "last") ∈ lw_all := lw_g (lw_at lw_m2 79 rfl) rfl
theorem q330 : (Jvm.Cond.superclass "ProducerBookModel" "java/lang/Object") ∈ lw_all := lw_g (lw_at lw_m2 80 rfl) rfl
theorem q332 : (Jvm.Cond.instanceMethod ({ cls := "ProducerBookModel", name := "thrown", desc := "()I" } : Jvm.MethodName)) ∈ lw_all := lw_g (lw_at lw_m2 82 rfl) rfl
theorem q333 : (Jvm.Cond.selects "ProducerBookModel" ({ cls := "ProducerBookModel", name := "thrown", desc := "()I" } : Jvm.MethodName) ({ cls := "ProducerBookModel", name := "thrown", desc := "()I" } : Jvm.MethodName)) ∈ lw_all := lw_g (lw_at lw_m2 83 rfl) rfl
theorem q334 : (Jvm.Cond.code ({ cls := "ProducerBookModel", name := "thrown", desc := "()I" } : Jvm.MethodName) prog_5_method_2_code (1 : Nat) (Option.some Jvm.ClassFile.FieldType.int)) ∈ lw_all := lw_g (lw_at lw_m2 84 rfl) rfl
theorem q336 : (Jvm.Cond.instanceMethod ({ cls := "ProducerBookModel", name := "offer", desc := "(JIII)I" } : Jvm.MethodName)) ∈ lw_all := lw_g (lw_at lw_m2 86 rfl) rfl
theorem q337 : (Jvm.Cond.selects "ProducerBookModel" ({ cls := "ProducerBookModel", name := "offer", desc := "(JIII)I" } : Jvm.MethodName) ({ cls := "ProducerBookModel", name := "offer", desc := "(JIII)I" } : Jvm.MethodName)) ∈ lw_all := lw_g (lw_at lw_m2 87 rfl) rfl
theorem q338 : (Jvm.Cond.code ({ cls := "ProducerBookModel", name := "offer", desc := "(JIII)I" } : Jvm.MethodName) prog_5_method_8_code (7 : Nat) (Option.some Jvm.ClassFile.FieldType.int)) ∈ lw_all := lw_g (lw_at lw_m2 88 rfl) rfl
theorem q339 : (Jvm.Cond.methodLink "ProducerBookModel" (48 : Nat) ({ cls := "ProducerBookModel", name := "isBatch", desc := "(JIII)Z" } : Jvm.MethodName)) ∈ lw_all := lw_g (lw_at lw_m2 89 rfl) rfl
theorem q340 : (Jvm.Cond.static ({ cls := "ProducerBookModel", name := "isBatch", desc := "(JIII)Z" } : Jvm.MethodName)) ∈ lw_all := lw_g (lw_at lw_m2 90 rfl) rfl
theorem q341 : (Jvm.Cond.code ({ cls := "ProducerBookModel", name := "isBatch", desc := "(JIII)Z" } : Jvm.MethodName) prog_5_method_3_code (5 : Nat) (Option.some Jvm.ClassFile.FieldType.boolean)) ∈ lw_all := lw_g (lw_at lw_m2 91 rfl) rfl
theorem q342 : (Jvm.Cond.constantLong "ProducerBookModel" (30 : Nat) (-1 : Int64)) ∈ lw_all := lw_g (lw_at lw_m2 92 rfl) rfl
theorem q343 : (Jvm.Cond.methodLink "ProducerBookModel" (52 : Nat) ({ cls := "ProducerBookModel", name := "judged", desc := "(JIII)I" } : Jvm.MethodName)) ∈ lw_all := lw_g (lw_at lw_m2 93 rfl) rfl
theorem q344 : (Jvm.Cond.privateMethod ({ cls := "ProducerBookModel", name := "judged", desc := "(JIII)I" } : Jvm.MethodName)) ∈ lw_tbl := lw_at lw_m2 94 rfl
theorem q345 : (Jvm.Cond.instanceMethod ({ cls := "ProducerBookModel", name := "judged", desc := "(JIII)I" } : Jvm.MethodName)) ∈ lw_all := lw_g (lw_at lw_m2 95 rfl) rfl
theorem q346 : (Jvm.Cond.code ({ cls := "ProducerBookModel", name := "judged", desc := "(JIII)I" } : Jvm.MethodName) prog_5_method_6_code (9 : Nat) (Option.some Jvm.ClassFile.FieldType.int)) ∈ lw_all := lw_g (lw_at lw_m2 96 rfl) rfl
theorem q347 : (Jvm.Cond.methodLink "ProducerBookModel" (37 : Nat) ({ cls := "ProducerBookModel", name := "knownOne", desc := "(JI)I" } : Jvm.MethodName)) ∈ lw_all := lw_g (lw_at lw_m2 97 rfl) rfl
theorem q348 : (Jvm.Cond.privateMethod ({ cls := "ProducerBookModel", name := "knownOne", desc := "(JI)I" } : Jvm.MethodName)) ∈ lw_tbl := lw_at lw_m2 98 rfl
theorem q349 : (Jvm.Cond.instanceMethod ({ cls := "ProducerBookModel", name := "knownOne", desc := "(JI)I" } : Jvm.MethodName)) ∈ lw_all := lw_g (lw_at lw_m2 99 rfl) rfl
theorem q350 : (Jvm.Cond.code ({ cls := "ProducerBookModel", name := "knownOne", desc := "(JI)I" } : Jvm.MethodName) prog_5_method_4_code (6 : Nat) (Option.some Jvm.ClassFile.FieldType.int)) ∈ lw_all := lw_g (lw_at lw_m2 100 rfl) rfl
theorem q351 : (Jvm.Cond.methodLink "ProducerBookModel" (41 : Nat) ({ cls := "ProducerBookModel", name := "after", desc := "(II)I" } : Jvm.MethodName)) ∈ lw_all := lw_g (lw_at lw_m2 101 rfl) rfl
theorem q352 : (Jvm.Cond.static ({ cls := "ProducerBookModel", name := "after", desc := "(II)I" } : Jvm.MethodName)) ∈ lw_all := lw_g (lw_at lw_m2 102 rfl) rfl
theorem q353 : (Jvm.Cond.code ({ cls := "ProducerBookModel", name := "after", desc := "(II)I" } : Jvm.MethodName) prog_5_method_5_code (4 : Nat) (Option.some Jvm.ClassFile.FieldType.int)) ∈ lw_all := lw_g (lw_at lw_m2 103 rfl) rfl
theorem q354 : (Jvm.Cond.constantLong "ProducerBookModel" (35 : Nat) (2147483648 : Int64)) ∈ lw_all := lw_g (lw_at lw_m2 104 rfl) rfl
theorem q355 : (Jvm.Cond.constant "ProducerBookModel" (56 : Nat) (1000000 : Int32)) ∈ lw_all := lw_g (lw_at lw_m2 105 rfl) rfl
theorem q356 : (Jvm.Cond.methodLink "ProducerBookModel" (57 : Nat) ({ cls := "ProducerBookModel", name := "come", desc := "(JIII)V" } : Jvm.MethodName)) ∈ lw_all := lw_g (lw_at lw_m2 106 rfl) rfl
theorem q357 : (Jvm.Cond.privateMethod ({ cls := "ProducerBookModel", name := "come", desc := "(JIII)V" } : Jvm.MethodName)) ∈ lw_tbl := lw_at lw_m2 107 rfl
theorem q358 : (Jvm.Cond.instanceMethod ({ cls := "ProducerBookModel", name := "come", desc := "(JIII)V" } : Jvm.MethodName)) ∈ lw_all := lw_g (lw_at lw_m2 108 rfl) rfl
theorem q359 : (Jvm.Cond.code ({ cls := "ProducerBookModel", name := "come", desc := "(JIII)V" } : Jvm.MethodName) prog_5_method_7_code (6 : Nat) (Option.none : Option Jvm.ClassFile.FieldType)) ∈ lw_all := lw_g (lw_at lw_m2 109 rfl) rfl
theorem q361 : (Jvm.Cond.instanceMethod ({ cls := "ProducerBookModel", name := "offers", desc := "(IJIII)I" } : Jvm.MethodName)) ∈ lw_all := lw_g (lw_at lw_m2 111 rfl) rfl
theorem q362 : (Jvm.Cond.selects "ProducerBookModel" ({ cls := "ProducerBookModel", name := "offers", desc := "(IJIII)I" } : Jvm.MethodName) ({ cls := "ProducerBookModel", name := "offers", desc := "(IJIII)I" } : Jvm.MethodName)) ∈ lw_all := lw_g (lw_at lw_m2 112 rfl) rfl
theorem q363 : (Jvm.Cond.code ({ cls := "ProducerBookModel", name := "offers", desc := "(IJIII)I" } : Jvm.MethodName) prog_5_method_9_code (10 : Nat) (Option.some Jvm.ClassFile.FieldType.int)) ∈ lw_all := lw_g (lw_at lw_m2 113 rfl) rfl
theorem q365 : (Jvm.Cond.instanceMethod ({ cls := "ProducerBookModel", name := "drop", desc := "(I)I" } : Jvm.MethodName)) ∈ lw_all := lw_g (lw_at lw_m2 115 rfl) rfl
theorem q366 : (Jvm.Cond.selects "ProducerBookModel" ({ cls := "ProducerBookModel", name := "drop", desc := "(I)I" } : Jvm.MethodName) ({ cls := "ProducerBookModel", name := "drop", desc := "(I)I" } : Jvm.MethodName)) ∈ lw_all := lw_g (lw_at lw_m2 116 rfl) rfl
theorem q367 : (Jvm.Cond.code ({ cls := "ProducerBookModel", name := "drop", desc := "(I)I" } : Jvm.MethodName) prog_5_method_11_code (4 : Nat) (Option.some Jvm.ClassFile.FieldType.int)) ∈ lw_all := lw_g (lw_at lw_m2 117 rfl) rfl
theorem q368 : (Jvm.Cond.methodLink "ProducerBookModel" (61 : Nat) ({ cls := "ProducerBookModel", name := "copy", desc := "(II)V" } : Jvm.MethodName)) ∈ lw_all := lw_g (lw_at lw_m2 118 rfl) rfl
theorem q369 : (Jvm.Cond.privateMethod ({ cls := "ProducerBookModel", name := "copy", desc := "(II)V" } : Jvm.MethodName)) ∈ lw_tbl := lw_at lw_m2 119 rfl
theorem q370 : (Jvm.Cond.instanceMethod ({ cls := "ProducerBookModel", name := "copy", desc := "(II)V" } : Jvm.MethodName)) ∈ lw_all := lw_g (lw_at lw_m2 120 rfl) rfl
theorem q371 : (Jvm.Cond.code ({ cls := "ProducerBookModel", name := "copy", desc := "(II)V" } : Jvm.MethodName) prog_5_method_10_code (3 : Nat) (Option.none : Option Jvm.ClassFile.FieldType)) ∈ lw_all := lw_g (lw_at lw_m2 121 rfl) rfl
theorem q373 : (Jvm.Cond.instanceMethod ({ cls := "ProducerBookModel", name := "thin", desc := "()I" } : Jvm.MethodName)) ∈ lw_all := lw_g (lw_at lw_m2 123 rfl) rfl
theorem q374 : (Jvm.Cond.selects "ProducerBookModel" ({ cls := "ProducerBookModel", name := "thin", desc := "()I" } : Jvm.MethodName) ({ cls := "ProducerBookModel", name := "thin", desc := "()I" } : Jvm.MethodName)) ∈ lw_all := lw_g (lw_at lw_m2 124 rfl) rfl
theorem q375 : (Jvm.Cond.code ({ cls := "ProducerBookModel", name := "thin", desc := "()I" } : Jvm.MethodName) prog_5_method_14_code (4 : Nat) (Option.some Jvm.ClassFile.FieldType.int)) ∈ lw_all := lw_g (lw_at lw_m2 125 rfl) rfl
theorem q376 : (Jvm.Cond.methodLink "ProducerBookModel" (69 : Nat) ({ cls := "ProducerBookModel", name := "isKnown", desc := "(I)Z" } : Jvm.MethodName)) ∈ lw_all := lw_g (lw_at lw_m2 126 rfl) rfl
theorem q377 : (Jvm.Cond.privateMethod ({ cls := "ProducerBookModel", name := "isKnown", desc := "(I)Z" } : Jvm.MethodName)) ∈ lw_tbl := lw_at lw_m2 127 rfl
theorem q378 : (Jvm.Cond.instanceMethod ({ cls := "ProducerBookModel", name := "isKnown", desc := "(I)Z" } : Jvm.MethodName)) ∈ lw_all := lw_g (lw_at lw_m2 128 rfl) rfl
theorem q379 : (Jvm.Cond.code ({ cls := "ProducerBookModel", name := "isKnown", desc := "(I)Z" } : Jvm.MethodName) prog_5_method_13_code (2 : Nat) (Option.some Jvm.ClassFile.FieldType.boolean)) ∈ lw_all := lw_g (lw_at lw_m2 129 rfl) rfl
theorem q380 : (Jvm.Cond.methodLink "ProducerBookModel" (65 : Nat) ({ cls := "ProducerBookModel", name := "laterOnes", desc := "(I)I" } : Jvm.MethodName)) ∈ lw_all := lw_g (lw_at lw_m2 130 rfl) rfl
theorem q381 : (Jvm.Cond.privateMethod ({ cls := "ProducerBookModel", name := "laterOnes", desc := "(I)I" } : Jvm.MethodName)) ∈ lw_tbl := lw_at lw_m2 131 rfl
theorem q382 : (Jvm.Cond.instanceMethod ({ cls := "ProducerBookModel", name := "laterOnes", desc := "(I)I" } : Jvm.MethodName)) ∈ lw_all := lw_g (lw_at lw_m2 132 rfl) rfl
theorem q383 : (Jvm.Cond.code ({ cls := "ProducerBookModel", name := "laterOnes", desc := "(I)I" } : Jvm.MethodName) prog_5_method_12_code (4 : Nat) (Option.some Jvm.ClassFile.FieldType.int)) ∈ lw_all := lw_g (lw_at lw_m2 133 rfl) rfl
theorem q385 : (Jvm.Cond.instanceMethod ({ cls := "ProducerBookModel", name := "known", desc := "(JI)I" } : Jvm.MethodName)) ∈ lw_all := lw_g (lw_at lw_m2 135 rfl) rfl
theorem q386 : (Jvm.Cond.selects "ProducerBookModel" ({ cls := "ProducerBookModel", name := "known", desc := "(JI)I" } : Jvm.MethodName) ({ cls := "ProducerBookModel", name := "known", desc := "(JI)I" } : Jvm.MethodName)) ∈ lw_all := lw_g (lw_at lw_m2 136 rfl) rfl
theorem q387 : (Jvm.Cond.code ({ cls := "ProducerBookModel", name := "known", desc := "(JI)I" } : Jvm.MethodName) prog_5_method_15_code (6 : Nat) (Option.some Jvm.ClassFile.FieldType.int)) ∈ lw_all := lw_g (lw_at lw_m2 137 rfl) rfl
theorem q389 : (Jvm.Cond.instanceMethod ({ cls := "ProducerBookModel", name := "batch", desc := "(II)J" } : Jvm.MethodName)) ∈ lw_all := lw_g (lw_at lw_m2 139 rfl) rfl
theorem q390 : (Jvm.Cond.selects "ProducerBookModel" ({ cls := "ProducerBookModel", name := "batch", desc := "(II)J" } : Jvm.MethodName) ({ cls := "ProducerBookModel", name := "batch", desc := "(II)J" } : Jvm.MethodName)) ∈ lw_all := lw_g (lw_at lw_m2 140 rfl) rfl
theorem q391 : (Jvm.Cond.code ({ cls := "ProducerBookModel", name := "batch", desc := "(II)J" } : Jvm.MethodName) prog_5_method_16_code (3 : Nat) (Option.some Jvm.ClassFile.FieldType.long)) ∈ lw_all := lw_g (lw_at lw_m2 141 rfl) rfl
theorem q393 : (Jvm.Cond.instanceMethod ({ cls := "ProducerBookModel", name := "count", desc := "(I)I" } : Jvm.MethodName)) ∈ lw_all := lw_g (lw_at lw_m2 143 rfl) rfl
theorem q394 : (Jvm.Cond.selects "ProducerBookModel" ({ cls := "ProducerBookModel", name := "count", desc := "(I)I" } : Jvm.MethodName) ({ cls := "ProducerBookModel", name := "count", desc := "(I)I" } : Jvm.MethodName)) ∈ lw_all := lw_g (lw_at lw_m2 144 rfl) rfl
theorem q395 : (Jvm.Cond.code ({ cls := "ProducerBookModel", name := "count", desc := "(I)I" } : Jvm.MethodName) prog_5_method_17_code (4 : Nat) (Option.some Jvm.ClassFile.FieldType.int)) ∈ lw_all := lw_g (lw_at lw_m2 145 rfl) rfl
theorem in_X4 : ∀ w ∈ wsX40, w ∈ lw_all := lw_in wsX40 [314, 316, 318, 320, 322, 324, 326, 328] (by decide +kernel) (by decide +kernel)
/-! java/lang/Throwable -/
def RJ0 : String := "java/lang/Throwable"
def TJ0 : u_T := fun k => match k with
  | 0 => ("java/lang/Throwable", "cause", "Ljava/lang/Throwable;", false)
  | 1 => ("java/lang/Throwable", "stackTrace", "[Ljava/lang/StackTraceElement;", false)
  | 2 => ("java/lang/Throwable", "suppressedExceptions", "Ljava/util/List;", false)
  | 3 => ("java/lang/Throwable", "detailMessage", "Ljava/lang/String;", false)
  | _ => ("java/lang/Throwable", "backtrace", "Ljava/lang/Object;", false)
def tyJ0 : Nat → FieldType := fun k => match k with
  | 0 => .object "java/lang/Throwable"
  | 1 => .array (.object "java/lang/StackTraceElement")
  | 2 => .object "java/util/List"
  | 3 => .object "java/lang/String"
  | _ => .object "java/lang/Object"
abbrev wsJ00 : List Cond := u_ws RJ0 TJ0 5
theorem nmJ0 : ∀ a, a < 5 → ∀ b, b < 5 → a ≠ b → (TJ0 a).2.1 ≠ (TJ0 b).2.1 := by decide +kernel
theorem tyJ0_ok : ∀ k, k < 5 → parseFieldDescriptor (TJ0 k).2.2.1 = some (tyJ0 k) := by decide +kernel
abbrev cJ0_init : ByteArray := prog_11_method_1_code
def yJ0_init : MethodName := ⟨RJ0, "<init>", "()V"⟩
theorem q15 : (Jvm.Cond.initialized "java/lang/Throwable") ∈ lw_all := lw_g (lw_at lw_m1 5 rfl) rfl
theorem q156 : (Jvm.Cond.declares ({ cls := "java/lang/Throwable", name := "<init>", desc := "()V" } : Jvm.MethodName)) ∈ lw_tbl := lw_at lw_m1 146 rfl
theorem q157 : (Jvm.Cond.declares ({ cls := "java/lang/Throwable", name := "<init>", desc := "(Ljava/lang/String;)V" } : Jvm.MethodName)) ∈ lw_tbl := lw_at lw_m1 147 rfl
theorem q161 : (Jvm.Cond.lays "java/lang/Throwable" "java/lang/Throwable" "cause" "Ljava/lang/Throwable;") ∈ lw_all := lw_g (lw_at lw_m1 151 rfl) rfl
theorem q163 : (Jvm.Cond.lays "java/lang/Throwable" "java/lang/Throwable" "stackTrace" "[Ljava/lang/StackTraceElement;") ∈ lw_all := lw_g (lw_at lw_m1 153 rfl) rfl
theorem q165 : (Jvm.Cond.lays "java/lang/Throwable" "java/lang/Throwable" "suppressedExceptions" "Ljava/util/List;") ∈ lw_all := lw_g (lw_at lw_m1 155 rfl) rfl
theorem q167 : (Jvm.Cond.lays "java/lang/Throwable" "java/lang/Throwable" "detailMessage" "Ljava/lang/String;") ∈ lw_all := lw_g (lw_at lw_m1 157 rfl) rfl
theorem q169 : (Jvm.Cond.lays "java/lang/Throwable" "java/lang/Throwable" "backtrace" "Ljava/lang/Object;") ∈ lw_all := lw_g (lw_at lw_m1 159 rfl) rfl
theorem q170 : (Jvm.Cond.fieldLink "java/lang/Throwable" (198 : Nat) "java/lang/Throwable" "backtrace" "Ljava/lang/Object;") ∈ lw_all := lw_g (lw_at lw_m1 160 rfl) rfl
theorem q171 : (Jvm.Cond.superclass "java/lang/Throwable" "java/lang/Object") ∈ lw_all := lw_g (lw_at lw_m1 161 rfl) rfl
theorem q172 : (Jvm.Cond.instanceMethod ({ cls := "java/lang/Throwable", name := "<init>", desc := "()V" } : Jvm.MethodName)) ∈ lw_all := lw_g (lw_at lw_m1 162 rfl) rfl
theorem q173 : (Jvm.Cond.code ({ cls := "java/lang/Throwable", name := "<init>", desc := "()V" } : Jvm.MethodName) prog_11_method_1_code (1 : Nat) (Option.none : Option Jvm.ClassFile.FieldType)) ∈ lw_all := lw_g (lw_at lw_m1 163 rfl) rfl
theorem q174 : (Jvm.Cond.methodLink "java/lang/Throwable" (1 : Nat) ({ cls := "java/lang/Object", name := "<init>", desc := "()V" } : Jvm.MethodName)) ∈ lw_all := lw_g (lw_at lw_m1 164 rfl) rfl
theorem q175 : (Jvm.Cond.fieldLink "java/lang/Throwable" (13 : Nat) "java/lang/Throwable" "UNASSIGNED_STACK" "[Ljava/lang/StackTraceElement;") ∈ lw_all := lw_g (lw_at lw_m1 165 rfl) rfl
theorem q176 : (Jvm.Cond.laysStatic "java/lang/Throwable" "UNASSIGNED_STACK" "[Ljava/lang/StackTraceElement;") ∈ lw_tbl := lw_at lw_m1 166 rfl
theorem q177 : (Jvm.Cond.fieldLink "java/lang/Throwable" (20 : Nat) "java/lang/Throwable" "SUPPRESSED_SENTINEL" "Ljava/util/List;") ∈ lw_all := lw_g (lw_at lw_m1 167 rfl) rfl
theorem q178 : (Jvm.Cond.laysStatic "java/lang/Throwable" "SUPPRESSED_SENTINEL" "Ljava/util/List;") ∈ lw_tbl := lw_at lw_m1 168 rfl
theorem q179 : (Jvm.Cond.methodLink "java/lang/Throwable" (27 : Nat) ({ cls := "java/lang/Throwable", name := "fillInStackTrace", desc := "()Ljava/lang/Throwable;" } : Jvm.MethodName)) ∈ lw_all := lw_g (lw_at lw_m1 169 rfl) rfl
theorem q180 : (Jvm.Cond.instanceMethod ({ cls := "java/lang/Throwable", name := "fillInStackTrace", desc := "()Ljava/lang/Throwable;" } : Jvm.MethodName)) ∈ lw_all := lw_g (lw_at lw_m1 170 rfl) rfl
theorem q181 : (Jvm.Cond.sameMethod "java/lang/Throwable" "java/lang/Throwable" "fillInStackTrace" "()Ljava/lang/Throwable;") ∈ lw_all := lw_g (lw_at lw_m1 171 rfl) rfl
theorem q183 : (Jvm.Cond.codeSync ({ cls := "java/lang/Throwable", name := "fillInStackTrace", desc := "()Ljava/lang/Throwable;" } : Jvm.MethodName) prog_11_method_18_code (1 : Nat) (Option.some (Jvm.ClassFile.FieldType.object "java/lang/Throwable"))) ∈ lw_all := lw_g (lw_at lw_m1 173 rfl) rfl
theorem q184 : (Jvm.Cond.methodLink "java/lang/Throwable" (202 : Nat) ({ cls := "java/lang/Throwable", name := "fillInStackTrace", desc := "(I)Ljava/lang/Throwable;" } : Jvm.MethodName)) ∈ lw_all := lw_g (lw_at lw_m1 174 rfl) rfl
theorem q185 : (Jvm.Cond.privateMethod ({ cls := "java/lang/Throwable", name := "fillInStackTrace", desc := "(I)Ljava/lang/Throwable;" } : Jvm.MethodName)) ∈ lw_tbl := lw_at lw_m1 175 rfl
theorem q186 : (Jvm.Cond.instanceMethod ({ cls := "java/lang/Throwable", name := "fillInStackTrace", desc := "(I)Ljava/lang/Throwable;" } : Jvm.MethodName)) ∈ lw_all := lw_g (lw_at lw_m1 176 rfl) rfl
theorem q187 : (Jvm.Cond.instantiable "java/lang/Throwable" (6 : Nat)) ∈ lw_all := lw_g (lw_at lw_m1 177 rfl) rfl
theorem q188 : (Jvm.Cond.native ({ cls := "java/lang/Throwable", name := "fillInStackTrace", desc := "(I)Ljava/lang/Throwable;" } : Jvm.MethodName)) ∈ lw_all := lw_g (lw_at lw_m1 178 rfl) rfl
theorem q199 : (Jvm.Cond.fieldLink "java/lang/Throwable" (198 : Nat) "java/lang/Throwable" "backtrace" "Ljava/lang/Object;") ∈ lw_all := lw_g (lw_at lw_m1 189 rfl) rfl
theorem q200 : (Jvm.Cond.fieldLink "java/lang/Throwable" (7 : Nat) "java/lang/Throwable" "cause" "Ljava/lang/Throwable;") ∈ lw_all := lw_g (lw_at lw_m1 190 rfl) rfl
theorem q201 : (Jvm.Cond.fieldLink "java/lang/Throwable" (17 : Nat) "java/lang/Throwable" "stackTrace" "[Ljava/lang/StackTraceElement;") ∈ lw_all := lw_g (lw_at lw_m1 191 rfl) rfl
theorem q202 : (Jvm.Cond.fieldLink "java/lang/Throwable" (24 : Nat) "java/lang/Throwable" "suppressedExceptions" "Ljava/util/List;") ∈ lw_all := lw_g (lw_at lw_m1 192 rfl) rfl
theorem q203 : (Jvm.Cond.soleField "java/lang/Throwable" "backtrace") ∈ lw_all := lw_g (lw_at lw_m1 193 rfl) rfl
theorem q204 : (Jvm.Cond.soleField "java/lang/Throwable" "detailMessage") ∈ lw_all := lw_g (lw_at lw_m1 194 rfl) rfl
theorem q205 : (Jvm.Cond.soleField "java/lang/Throwable" "cause") ∈ lw_all := lw_g (lw_at lw_m1 195 rfl) rfl
theorem q206 : (Jvm.Cond.soleField "java/lang/Throwable" "stackTrace") ∈ lw_all := lw_g (lw_at lw_m1 196 rfl) rfl
theorem q208 : (Jvm.Cond.soleField "java/lang/Throwable" "depth") ∈ lw_all := lw_g (lw_at lw_m1 198 rfl) rfl
theorem q209 : (Jvm.Cond.soleField "java/lang/Throwable" "suppressedExceptions") ∈ lw_all := lw_g (lw_at lw_m1 199 rfl) rfl
theorem q397 : (Jvm.Cond.sameMethod "java/lang/Throwable" "java/lang/Throwable" "fillInStackTrace" "(I)Ljava/lang/Throwable;") ∈ lw_all := lw_g (lw_at lw_m2 147 rfl) rfl
theorem in_J0 : ∀ w ∈ wsJ00, w ∈ lw_all := lw_in wsJ00 [161, 163, 165, 167, 169] (by decide +kernel) (by decide +kernel)
/-! java/lang/Exception -/
def RJ1 : String := "java/lang/Exception"
abbrev cJ1_init : ByteArray := prog_6_method_1_code
def yJ1_init : MethodName := ⟨RJ1, "<init>", "()V"⟩
theorem q16 : (Jvm.Cond.initialized "java/lang/Exception") ∈ lw_all := lw_g (lw_at lw_m1 6 rfl) rfl
theorem q154 : (Jvm.Cond.declares ({ cls := "java/lang/Exception", name := "<init>", desc := "()V" } : Jvm.MethodName)) ∈ lw_tbl := lw_at lw_m1 144 rfl
theorem q155 : (Jvm.Cond.declares ({ cls := "java/lang/Exception", name := "<init>", desc := "(Ljava/lang/String;)V" } : Jvm.MethodName)) ∈ lw_tbl := lw_at lw_m1 145 rfl
theorem q196 : (Jvm.Cond.instanceMethod ({ cls := "java/lang/Exception", name := "<init>", desc := "()V" } : Jvm.MethodName)) ∈ lw_all := lw_g (lw_at lw_m1 186 rfl) rfl
theorem q197 : (Jvm.Cond.code ({ cls := "java/lang/Exception", name := "<init>", desc := "()V" } : Jvm.MethodName) prog_6_method_1_code (1 : Nat) (Option.none : Option Jvm.ClassFile.FieldType)) ∈ lw_all := lw_g (lw_at lw_m1 187 rfl) rfl
theorem q198 : (Jvm.Cond.methodLink "java/lang/Exception" (1 : Nat) ({ cls := "java/lang/Throwable", name := "<init>", desc := "()V" } : Jvm.MethodName)) ∈ lw_all := lw_g (lw_at lw_m1 188 rfl) rfl
/-! java/lang/RuntimeException -/
def RJ2 : String := "java/lang/RuntimeException"
abbrev cJ2_init : ByteArray := prog_10_method_1_code
def yJ2_init : MethodName := ⟨RJ2, "<init>", "()V"⟩
theorem q17 : (Jvm.Cond.initialized "java/lang/RuntimeException") ∈ lw_all := lw_g (lw_at lw_m1 7 rfl) rfl
theorem q152 : (Jvm.Cond.declares ({ cls := "java/lang/RuntimeException", name := "<init>", desc := "()V" } : Jvm.MethodName)) ∈ lw_tbl := lw_at lw_m1 142 rfl
theorem q153 : (Jvm.Cond.declares ({ cls := "java/lang/RuntimeException", name := "<init>", desc := "(Ljava/lang/String;)V" } : Jvm.MethodName)) ∈ lw_tbl := lw_at lw_m1 143 rfl
theorem q193 : (Jvm.Cond.instanceMethod ({ cls := "java/lang/RuntimeException", name := "<init>", desc := "()V" } : Jvm.MethodName)) ∈ lw_all := lw_g (lw_at lw_m1 183 rfl) rfl
theorem q194 : (Jvm.Cond.code ({ cls := "java/lang/RuntimeException", name := "<init>", desc := "()V" } : Jvm.MethodName) prog_10_method_1_code (1 : Nat) (Option.none : Option Jvm.ClassFile.FieldType)) ∈ lw_all := lw_g (lw_at lw_m1 184 rfl) rfl
theorem q195 : (Jvm.Cond.methodLink "java/lang/RuntimeException" (1 : Nat) ({ cls := "java/lang/Exception", name := "<init>", desc := "()V" } : Jvm.MethodName)) ∈ lw_all := lw_g (lw_at lw_m1 185 rfl) rfl
/-! java/lang/IllegalArgumentException -/
def RJ3 : String := "java/lang/IllegalArgumentException"
def TJ3 : u_T := fun k => match k with
  | 0 => ("java/lang/Throwable", "cause", "Ljava/lang/Throwable;", false)
  | 1 => ("java/lang/Throwable", "stackTrace", "[Ljava/lang/StackTraceElement;", false)
  | 2 => ("java/lang/Throwable", "suppressedExceptions", "Ljava/util/List;", false)
  | 3 => ("java/lang/Throwable", "detailMessage", "Ljava/lang/String;", false)
  | 4 => ("java/lang/Throwable", "backtrace", "Ljava/lang/Object;", false)
  | _ => ("java/lang/Throwable", "depth", "I", false)
def tyJ3 : Nat → FieldType := fun k => match k with
  | 0 => .object "java/lang/Throwable"
  | 1 => .array (.object "java/lang/StackTraceElement")
  | 2 => .object "java/util/List"
  | 3 => .object "java/lang/String"
  | 4 => .object "java/lang/Object"
  | _ => .int
abbrev wsJ30 : List Cond := u_ws RJ3 TJ3 6
theorem nmJ3 : ∀ a, a < 6 → ∀ b, b < 6 → a ≠ b → (TJ3 a).2.1 ≠ (TJ3 b).2.1 := by decide +kernel
theorem tyJ3_ok : ∀ k, k < 6 → parseFieldDescriptor (TJ3 k).2.2.1 = some (tyJ3 k) := by decide +kernel
abbrev cJ3_init : ByteArray := prog_7_method_1_code
def yJ3_init : MethodName := ⟨RJ3, "<init>", "()V"⟩
theorem q18 : (Jvm.Cond.initialized "java/lang/IllegalArgumentException") ∈ lw_all := lw_g (lw_at lw_m1 8 rfl) rfl
theorem q150 : (Jvm.Cond.instantiable "java/lang/IllegalArgumentException" (6 : Nat)) ∈ lw_all := lw_g (lw_at lw_m1 140 rfl) rfl
theorem q151 : (Jvm.Cond.castable "java/lang/IllegalArgumentException" "java/lang/IllegalArgumentException") ∈ lw_tbl := lw_at lw_m1 141 rfl
theorem q158 : (Jvm.Cond.selects "java/lang/IllegalArgumentException" ({ cls := "java/lang/Throwable", name := "fillInStackTrace", desc := "(I)Ljava/lang/Throwable;" } : Jvm.MethodName) ({ cls := "java/lang/Throwable", name := "fillInStackTrace", desc := "(I)Ljava/lang/Throwable;" } : Jvm.MethodName)) ∈ lw_all := lw_g (lw_at lw_m1 148 rfl) rfl
theorem q159 : (Jvm.Cond.selects "java/lang/IllegalArgumentException" ({ cls := "java/lang/Throwable", name := "fillInStackTrace", desc := "()Ljava/lang/Throwable;" } : Jvm.MethodName) ({ cls := "java/lang/Throwable", name := "fillInStackTrace", desc := "()Ljava/lang/Throwable;" } : Jvm.MethodName)) ∈ lw_all := lw_g (lw_at lw_m1 149 rfl) rfl
theorem q160 : (Jvm.Cond.lays "java/lang/IllegalArgumentException" "java/lang/Throwable" "cause" "Ljava/lang/Throwable;") ∈ lw_all := lw_g (lw_at lw_m1 150 rfl) rfl
theorem q162 : (Jvm.Cond.lays "java/lang/IllegalArgumentException" "java/lang/Throwable" "stackTrace" "[Ljava/lang/StackTraceElement;") ∈ lw_all := lw_g (lw_at lw_m1 152 rfl) rfl
theorem q164 : (Jvm.Cond.lays "java/lang/IllegalArgumentException" "java/lang/Throwable" "suppressedExceptions" "Ljava/util/List;") ∈ lw_all := lw_g (lw_at lw_m1 154 rfl) rfl
theorem q166 : (Jvm.Cond.lays "java/lang/IllegalArgumentException" "java/lang/Throwable" "detailMessage" "Ljava/lang/String;") ∈ lw_all := lw_g (lw_at lw_m1 156 rfl) rfl
theorem q168 : (Jvm.Cond.lays "java/lang/IllegalArgumentException" "java/lang/Throwable" "backtrace" "Ljava/lang/Object;") ∈ lw_all := lw_g (lw_at lw_m1 158 rfl) rfl
theorem q190 : (Jvm.Cond.instanceMethod ({ cls := "java/lang/IllegalArgumentException", name := "<init>", desc := "()V" } : Jvm.MethodName)) ∈ lw_all := lw_g (lw_at lw_m1 180 rfl) rfl
theorem q191 : (Jvm.Cond.code ({ cls := "java/lang/IllegalArgumentException", name := "<init>", desc := "()V" } : Jvm.MethodName) prog_7_method_1_code (1 : Nat) (Option.none : Option Jvm.ClassFile.FieldType)) ∈ lw_all := lw_g (lw_at lw_m1 181 rfl) rfl
theorem q192 : (Jvm.Cond.methodLink "java/lang/IllegalArgumentException" (1 : Nat) ({ cls := "java/lang/RuntimeException", name := "<init>", desc := "()V" } : Jvm.MethodName)) ∈ lw_all := lw_g (lw_at lw_m1 182 rfl) rfl
theorem q207 : (Jvm.Cond.lays "java/lang/IllegalArgumentException" "java/lang/Throwable" "depth" "I") ∈ lw_all := lw_g (lw_at lw_m1 197 rfl) rfl
theorem q210 : (Jvm.Cond.superclass "java/lang/IllegalArgumentException" "java/lang/RuntimeException") ∈ lw_all := lw_g (lw_at lw_m1 200 rfl) rfl
theorem in_J3 : ∀ w ∈ wsJ30, w ∈ lw_all := lw_in wsJ30 [160, 162, 164, 166, 168, 207] (by decide +kernel) (by decide +kernel)
/-! java/lang/Math -/
def RJ4 : String := "java/lang/Math"
abbrev cJ4_min : ByteArray := prog_9_method_69_code
def yJ4_min : MethodName := ⟨RJ4, "min", "(II)I"⟩
theorem q19 : (Jvm.Cond.initialized "java/lang/Math") ∈ lw_all := lw_g (lw_at lw_m1 9 rfl) rfl
theorem q228 : (Jvm.Cond.static ({ cls := "java/lang/Math", name := "min", desc := "(II)I" } : Jvm.MethodName)) ∈ lw_all := lw_g (lw_at lw_m1 218 rfl) rfl
theorem q229 : (Jvm.Cond.code ({ cls := "java/lang/Math", name := "min", desc := "(II)I" } : Jvm.MethodName) prog_9_method_69_code (2 : Nat) (Option.some Jvm.ClassFile.FieldType.int)) ∈ lw_all := lw_g (lw_at lw_m1 219 rfl) rfl
/-! java/lang/IllegalStateException -/
def RJ5 : String := "java/lang/IllegalStateException"
def TJ5 : u_T := fun k => match k with
  | 0 => ("java/lang/Throwable", "cause", "Ljava/lang/Throwable;", false)
  | 1 => ("java/lang/Throwable", "stackTrace", "[Ljava/lang/StackTraceElement;", false)
  | 2 => ("java/lang/Throwable", "suppressedExceptions", "Ljava/util/List;", false)
  | 3 => ("java/lang/Throwable", "detailMessage", "Ljava/lang/String;", false)
  | 4 => ("java/lang/Throwable", "backtrace", "Ljava/lang/Object;", false)
  | _ => ("java/lang/Throwable", "depth", "I", false)
def tyJ5 : Nat → FieldType := fun k => match k with
  | 0 => .object "java/lang/Throwable"
  | 1 => .array (.object "java/lang/StackTraceElement")
  | 2 => .object "java/util/List"
  | 3 => .object "java/lang/String"
  | 4 => .object "java/lang/Object"
  | _ => .int
abbrev wsJ50 : List Cond := u_ws RJ5 TJ5 6
theorem nmJ5 : ∀ a, a < 6 → ∀ b, b < 6 → a ≠ b → (TJ5 a).2.1 ≠ (TJ5 b).2.1 := by decide +kernel
theorem tyJ5_ok : ∀ k, k < 6 → parseFieldDescriptor (TJ5 k).2.2.1 = some (tyJ5 k) := by decide +kernel
abbrev cJ5_init : ByteArray := prog_8_method_1_code
def yJ5_init : MethodName := ⟨RJ5, "<init>", "()V"⟩
theorem q20 : (Jvm.Cond.initialized "java/lang/IllegalStateException") ∈ lw_all := lw_g (lw_at lw_m1 10 rfl) rfl
theorem q182 : (Jvm.Cond.selects "java/lang/IllegalStateException" ({ cls := "java/lang/Throwable", name := "fillInStackTrace", desc := "()Ljava/lang/Throwable;" } : Jvm.MethodName) ({ cls := "java/lang/Throwable", name := "fillInStackTrace", desc := "()Ljava/lang/Throwable;" } : Jvm.MethodName)) ∈ lw_all := lw_g (lw_at lw_m1 172 rfl) rfl
theorem q240 : (Jvm.Cond.instantiable "java/lang/IllegalStateException" (6 : Nat)) ∈ lw_all := lw_g (lw_at lw_m1 230 rfl) rfl
theorem q241 : (Jvm.Cond.castable "java/lang/IllegalStateException" "java/lang/IllegalStateException") ∈ lw_tbl := lw_at lw_m1 231 rfl
theorem q242 : (Jvm.Cond.selects "java/lang/IllegalStateException" ({ cls := "java/lang/Throwable", name := "fillInStackTrace", desc := "(I)Ljava/lang/Throwable;" } : Jvm.MethodName) ({ cls := "java/lang/Throwable", name := "fillInStackTrace", desc := "(I)Ljava/lang/Throwable;" } : Jvm.MethodName)) ∈ lw_all := lw_g (lw_at lw_m1 232 rfl) rfl
theorem q243 : (Jvm.Cond.lays "java/lang/IllegalStateException" "java/lang/Throwable" "cause" "Ljava/lang/Throwable;") ∈ lw_all := lw_g (lw_at lw_m1 233 rfl) rfl
theorem q244 : (Jvm.Cond.lays "java/lang/IllegalStateException" "java/lang/Throwable" "stackTrace" "[Ljava/lang/StackTraceElement;") ∈ lw_all := lw_g (lw_at lw_m1 234 rfl) rfl
theorem q245 : (Jvm.Cond.lays "java/lang/IllegalStateException" "java/lang/Throwable" "suppressedExceptions" "Ljava/util/List;") ∈ lw_all := lw_g (lw_at lw_m1 235 rfl) rfl
theorem q246 : (Jvm.Cond.lays "java/lang/IllegalStateException" "java/lang/Throwable" "detailMessage" "Ljava/lang/String;") ∈ lw_all := lw_g (lw_at lw_m1 236 rfl) rfl
theorem q247 : (Jvm.Cond.lays "java/lang/IllegalStateException" "java/lang/Throwable" "backtrace" "Ljava/lang/Object;") ∈ lw_all := lw_g (lw_at lw_m1 237 rfl) rfl
theorem q249 : (Jvm.Cond.instanceMethod ({ cls := "java/lang/IllegalStateException", name := "<init>", desc := "()V" } : Jvm.MethodName)) ∈ lw_all := lw_g (lw_at lw_m1 239 rfl) rfl
theorem q250 : (Jvm.Cond.code ({ cls := "java/lang/IllegalStateException", name := "<init>", desc := "()V" } : Jvm.MethodName) prog_8_method_1_code (1 : Nat) (Option.none : Option Jvm.ClassFile.FieldType)) ∈ lw_all := lw_g (lw_at lw_m2 0 rfl) rfl
theorem q251 : (Jvm.Cond.methodLink "java/lang/IllegalStateException" (1 : Nat) ({ cls := "java/lang/RuntimeException", name := "<init>", desc := "()V" } : Jvm.MethodName)) ∈ lw_all := lw_g (lw_at lw_m2 1 rfl) rfl
theorem q252 : (Jvm.Cond.lays "java/lang/IllegalStateException" "java/lang/Throwable" "depth" "I") ∈ lw_all := lw_g (lw_at lw_m2 2 rfl) rfl
theorem q253 : (Jvm.Cond.superclass "java/lang/IllegalStateException" "java/lang/RuntimeException") ∈ lw_all := lw_g (lw_at lw_m2 3 rfl) rfl
theorem in_J5 : ∀ w ∈ wsJ50, w ∈ lw_all := lw_in wsJ50 [243, 244, 245, 246, 247, 252] (by decide +kernel) (by decide +kernel)
/-! java/lang/Object -/
def RJ6 : String := "java/lang/Object"
abbrev cJ6_init : ByteArray := object_method_1_code
def yJ6_init : MethodName := ⟨RJ6, "<init>", "()V"⟩
theorem q27 : (Jvm.Cond.instanceMethod ({ cls := "java/lang/Object", name := "<init>", desc := "()V" } : Jvm.MethodName)) ∈ lw_all := lw_g (lw_at lw_m1 17 rfl) rfl
theorem q28 : (Jvm.Cond.code ({ cls := "java/lang/Object", name := "<init>", desc := "()V" } : Jvm.MethodName) object_method_1_code (1 : Nat) (Option.none : Option Jvm.ClassFile.FieldType)) ∈ lw_all := lw_g (lw_at lw_m1 18 rfl) rfl
/-! the law's own entry -/
abbrev cL_law : ByteArray := code
end
section
set_option maxRecDepth 100000
theorem dX1_init_0 : decode cX1_init 0 = .ok (.aload_n 0, 1) := by decide +kernel
theorem dX1_init_1 : decode cX1_init 1 = .ok (.invokespecial 1, 3) := by decide +kernel
theorem dX1_init_4 : decode cX1_init 4 = .ok (.aload_n 0, 1) := by decide +kernel
theorem dX1_init_5 : decode cX1_init 5 = .ok (.new 7, 3) := by decide +kernel
theorem dX1_init_8 : decode cX1_init 8 = .ok (.dup, 1) := by decide +kernel
theorem dX1_init_9 : decode cX1_init 9 = .ok (.invokespecial 9, 3) := by decide +kernel
theorem dX1_init_12 : decode cX1_init 12 = .ok (.putfield 10, 3) := by decide +kernel
theorem dX1_init_15 : decode cX1_init 15 = .ok (.aload_n 0, 1) := by decide +kernel
theorem dX1_init_16 : decode cX1_init 16 = .ok (.new 16, 3) := by decide +kernel
theorem dX1_init_19 : decode cX1_init 19 = .ok (.dup, 1) := by decide +kernel
theorem dX1_init_20 : decode cX1_init 20 = .ok (.aload_n 0, 1) := by decide +kernel
theorem dX1_init_21 : decode cX1_init 21 = .ok (.getfield 10, 3) := by decide +kernel
theorem dX1_init_24 : decode cX1_init 24 = .ok (.invokespecial 18, 3) := by decide +kernel
theorem dX1_init_27 : decode cX1_init 27 = .ok (.putfield 21, 3) := by decide +kernel
theorem dX1_init_30 : decode cX1_init 30 = .ok (.return_, 1) := by decide +kernel
theorem dX1_thin_0 : decode cX1_thin 0 = .ok (.iconst 0, 1) := by decide +kernel
theorem dX1_thin_1 : decode cX1_thin 1 = .ok (.istore_n 1, 1) := by decide +kernel
theorem dX1_thin_2 : decode cX1_thin 2 = .ok (.iconst 0, 1) := by decide +kernel
theorem dX1_thin_3 : decode cX1_thin 3 = .ok (.istore_n 2, 1) := by decide +kernel
theorem dX1_thin_4 : decode cX1_thin 4 = .ok (.iload_n 2, 1) := by decide +kernel
theorem dX1_thin_5 : decode cX1_thin 5 = .ok (.aload_n 0, 1) := by decide +kernel
theorem dX1_thin_6 : decode cX1_thin 6 = .ok (.getfield 10, 3) := by decide +kernel
theorem dX1_thin_9 : decode cX1_thin 9 = .ok (.getfield 72, 3) := by decide +kernel
theorem dX1_thin_12 : decode cX1_thin 12 = .ok (.if_icmp .ge 33, 3) := by decide +kernel
theorem dX1_thin_15 : decode cX1_thin 15 = .ok (.aload_n 0, 1) := by decide +kernel
theorem dX1_thin_16 : decode cX1_thin 16 = .ok (.getfield 10, 3) := by decide +kernel
theorem dX1_thin_19 : decode cX1_thin 19 = .ok (.getfield 110, 3) := by decide +kernel
theorem dX1_thin_22 : decode cX1_thin 22 = .ok (.iload_n 2, 1) := by decide +kernel
theorem dX1_thin_23 : decode cX1_thin 23 = .ok (.baload, 1) := by decide +kernel
theorem dX1_thin_24 : decode cX1_thin 24 = .ok (.ifCond .eq 15, 3) := by decide +kernel
theorem dX1_thin_27 : decode cX1_thin 27 = .ok (.aload_n 0, 1) := by decide +kernel
theorem dX1_thin_28 : decode cX1_thin 28 = .ok (.getfield 10, 3) := by decide +kernel
theorem dX1_thin_31 : decode cX1_thin 31 = .ok (.iload_n 2, 1) := by decide +kernel
theorem dX1_thin_32 : decode cX1_thin 32 = .ok (.iload_n 1, 1) := by decide +kernel
theorem dX1_thin_33 : decode cX1_thin 33 = .ok (.iinc 1 1, 3) := by decide +kernel
theorem dX1_thin_36 : decode cX1_thin 36 = .ok (.invokevirtual 103, 3) := by decide +kernel
theorem dX1_thin_39 : decode cX1_thin 39 = .ok (.iinc 2 1, 3) := by decide +kernel
theorem dX1_thin_42 : decode cX1_thin 42 = .ok (.goto (-38), 3) := by decide +kernel
theorem dX1_thin_45 : decode cX1_thin 45 = .ok (.aload_n 0, 1) := by decide +kernel
theorem dX1_thin_46 : decode cX1_thin 46 = .ok (.getfield 10, 3) := by decide +kernel
theorem dX1_thin_49 : decode cX1_thin 49 = .ok (.getfield 72, 3) := by decide +kernel
theorem dX1_thin_52 : decode cX1_thin 52 = .ok (.iload_n 1, 1) := by decide +kernel
theorem dX1_thin_53 : decode cX1_thin 53 = .ok (.isub, 1) := by decide +kernel
theorem dX1_thin_54 : decode cX1_thin 54 = .ok (.istore_n 2, 1) := by decide +kernel
theorem dX1_thin_55 : decode cX1_thin 55 = .ok (.aload_n 0, 1) := by decide +kernel
theorem dX1_thin_56 : decode cX1_thin 56 = .ok (.getfield 10, 3) := by decide +kernel
theorem dX1_thin_59 : decode cX1_thin 59 = .ok (.iload_n 1, 1) := by decide +kernel
theorem dX1_thin_60 : decode cX1_thin 60 = .ok (.putfield 72, 3) := by decide +kernel
theorem dX1_thin_63 : decode cX1_thin 63 = .ok (.aload_n 0, 1) := by decide +kernel
theorem dX1_thin_64 : decode cX1_thin 64 = .ok (.getfield 21, 3) := by decide +kernel
theorem dX1_thin_67 : decode cX1_thin 67 = .ok (.invokevirtual 107, 3) := by decide +kernel
theorem dX1_thin_70 : decode cX1_thin 70 = .ok (.iload_n 2, 1) := by decide +kernel
theorem dX1_thin_71 : decode cX1_thin 71 = .ok (.ireturn, 1) := by decide +kernel
theorem dX1_offer_0 : decode cX1_offer 0 = .ok (.lload_n 1, 1) := by decide +kernel
theorem dX1_offer_1 : decode cX1_offer 1 = .ok (.iload_n 3, 1) := by decide +kernel
theorem dX1_offer_2 : decode cX1_offer 2 = .ok (.iload 4, 2) := by decide +kernel
theorem dX1_offer_4 : decode cX1_offer 4 = .ok (.iload 5, 2) := by decide +kernel
theorem dX1_offer_6 : decode cX1_offer 6 = .ok (.invokestatic 80, 3) := by decide +kernel
theorem dX1_offer_9 : decode cX1_offer 9 = .ok (.aload_n 0, 1) := by decide +kernel
theorem dX1_offer_10 : decode cX1_offer 10 = .ok (.lload_n 1, 1) := by decide +kernel
theorem dX1_offer_11 : decode cX1_offer 11 = .ok (.iload_n 3, 1) := by decide +kernel
theorem dX1_offer_12 : decode cX1_offer 12 = .ok (.iload 4, 2) := by decide +kernel
theorem dX1_offer_14 : decode cX1_offer 14 = .ok (.iload 5, 2) := by decide +kernel
theorem dX1_offer_16 : decode cX1_offer 16 = .ok (.invokevirtual 83, 3) := by decide +kernel
theorem dX1_offer_19 : decode cX1_offer 19 = .ok (.istore 6, 2) := by decide +kernel
theorem dX1_offer_21 : decode cX1_offer 21 = .ok (.iload 6, 2) := by decide +kernel
theorem dX1_offer_23 : decode cX1_offer 23 = .ok (.iconst (-1), 1) := by decide +kernel
theorem dX1_offer_24 : decode cX1_offer 24 = .ok (.if_icmp .eq 6, 3) := by decide +kernel
theorem dX1_offer_27 : decode cX1_offer 27 = .ok (.iload 6, 2) := by decide +kernel
theorem dX1_offer_29 : decode cX1_offer 29 = .ok (.ireturn, 1) := by decide +kernel
theorem dX1_offer_30 : decode cX1_offer 30 = .ok (.aload_n 0, 1) := by decide +kernel
theorem dX1_offer_31 : decode cX1_offer 31 = .ok (.getfield 10, 3) := by decide +kernel
theorem dX1_offer_34 : decode cX1_offer 34 = .ok (.getfield 72, 3) := by decide +kernel
theorem dX1_offer_37 : decode cX1_offer 37 = .ok (.sipush 2000, 3) := by decide +kernel
theorem dX1_offer_40 : decode cX1_offer 40 = .ok (.if_icmp .ge 24, 3) := by decide +kernel
theorem dX1_offer_43 : decode cX1_offer 43 = .ok (.aload_n 0, 1) := by decide +kernel
theorem dX1_offer_44 : decode cX1_offer 44 = .ok (.getfield 10, 3) := by decide +kernel
theorem dX1_offer_47 : decode cX1_offer 47 = .ok (.getfield 87, 3) := by decide +kernel
theorem dX1_offer_50 : decode cX1_offer 50 = .ok (.iload 5, 2) := by decide +kernel
theorem dX1_offer_52 : decode cX1_offer 52 = .ok (.iadd, 1) := by decide +kernel
theorem dX1_offer_53 : decode cX1_offer 53 = .ok (.iconst 1, 1) := by decide +kernel
theorem dX1_offer_54 : decode cX1_offer 54 = .ok (.iadd, 1) := by decide +kernel
theorem dX1_offer_55 : decode cX1_offer 55 = .ok (.ldc 90, 2) := by decide +kernel
theorem dX1_offer_57 : decode cX1_offer 57 = .ok (.if_icmp .gt 7, 3) := by decide +kernel
theorem dX1_offer_60 : decode cX1_offer 60 = .ok (.iconst 1, 1) := by decide +kernel
theorem dX1_offer_61 : decode cX1_offer 61 = .ok (.goto 4, 3) := by decide +kernel
theorem dX1_offer_64 : decode cX1_offer 64 = .ok (.iconst 0, 1) := by decide +kernel
theorem dX1_offer_65 : decode cX1_offer 65 = .ok (.invokestatic 91, 3) := by decide +kernel
theorem dX1_offer_68 : decode cX1_offer 68 = .ok (.aload_n 0, 1) := by decide +kernel
theorem dX1_offer_69 : decode cX1_offer 69 = .ok (.lload_n 1, 1) := by decide +kernel
theorem dX1_offer_70 : decode cX1_offer 70 = .ok (.iload_n 3, 1) := by decide +kernel
theorem dX1_offer_71 : decode cX1_offer 71 = .ok (.iload 4, 2) := by decide +kernel
theorem dX1_offer_73 : decode cX1_offer 73 = .ok (.iload 5, 2) := by decide +kernel
theorem dX1_offer_75 : decode cX1_offer 75 = .ok (.invokevirtual 94, 3) := by decide +kernel
theorem dX1_offer_78 : decode cX1_offer 78 = .ok (.ireturn, 1) := by decide +kernel
theorem dX1_isBatch_0 : decode cX1_isBatch 0 = .ok (.iload 4, 2) := by decide +kernel
theorem dX1_isBatch_2 : decode cX1_isBatch 2 = .ok (.ifCond .lt 23, 3) := by decide +kernel
theorem dX1_isBatch_5 : decode cX1_isBatch 5 = .ok (.iload 4, 2) := by decide +kernel
theorem dX1_isBatch_7 : decode cX1_isBatch 7 = .ok (.sipush 1000, 3) := by decide +kernel
theorem dX1_isBatch_10 : decode cX1_isBatch 10 = .ok (.if_icmp .ge 15, 3) := by decide +kernel
theorem dX1_isBatch_13 : decode cX1_isBatch 13 = .ok (.lload_n 0, 1) := by decide +kernel
theorem dX1_isBatch_14 : decode cX1_isBatch 14 = .ok (.ldc2_w 31, 3) := by decide +kernel
theorem dX1_isBatch_17 : decode cX1_isBatch 17 = .ok (.lcmp, 1) := by decide +kernel
theorem dX1_isBatch_18 : decode cX1_isBatch 18 = .ok (.ifCond .lt 7, 3) := by decide +kernel
theorem dX1_isBatch_21 : decode cX1_isBatch 21 = .ok (.iconst 1, 1) := by decide +kernel
theorem dX1_isBatch_22 : decode cX1_isBatch 22 = .ok (.goto 4, 3) := by decide +kernel
theorem dX1_isBatch_25 : decode cX1_isBatch 25 = .ok (.iconst 0, 1) := by decide +kernel
theorem dX1_isBatch_26 : decode cX1_isBatch 26 = .ok (.invokestatic 33, 3) := by decide +kernel
theorem dX1_isBatch_29 : decode cX1_isBatch 29 = .ok (.lload_n 0, 1) := by decide +kernel
theorem dX1_isBatch_30 : decode cX1_isBatch 30 = .ok (.ldc2_w 31, 3) := by decide +kernel
theorem dX1_isBatch_33 : decode cX1_isBatch 33 = .ok (.lcmp, 1) := by decide +kernel
theorem dX1_isBatch_34 : decode cX1_isBatch 34 = .ok (.ifCond .ne 21, 3) := by decide +kernel
theorem dX1_isBatch_37 : decode cX1_isBatch 37 = .ok (.iload_n 2, 1) := by decide +kernel
theorem dX1_isBatch_38 : decode cX1_isBatch 38 = .ok (.iconst (-1), 1) := by decide +kernel
theorem dX1_isBatch_39 : decode cX1_isBatch 39 = .ok (.if_icmp .ne 12, 3) := by decide +kernel
theorem dX1_isBatch_42 : decode cX1_isBatch 42 = .ok (.iload_n 3, 1) := by decide +kernel
theorem dX1_isBatch_43 : decode cX1_isBatch 43 = .ok (.iconst (-1), 1) := by decide +kernel
theorem dX1_isBatch_44 : decode cX1_isBatch 44 = .ok (.if_icmp .ne 7, 3) := by decide +kernel
theorem dX1_isBatch_47 : decode cX1_isBatch 47 = .ok (.iconst 1, 1) := by decide +kernel
theorem dX1_isBatch_48 : decode cX1_isBatch 48 = .ok (.goto 27, 3) := by decide +kernel
theorem dX1_isBatch_51 : decode cX1_isBatch 51 = .ok (.iconst 0, 1) := by decide +kernel
theorem dX1_isBatch_52 : decode cX1_isBatch 52 = .ok (.goto 23, 3) := by decide +kernel
theorem dX1_isBatch_55 : decode cX1_isBatch 55 = .ok (.iload_n 2, 1) := by decide +kernel
theorem dX1_isBatch_56 : decode cX1_isBatch 56 = .ok (.ifCond .lt 18, 3) := by decide +kernel
theorem dX1_isBatch_59 : decode cX1_isBatch 59 = .ok (.iload_n 2, 1) := by decide +kernel
theorem dX1_isBatch_60 : decode cX1_isBatch 60 = .ok (.sipush 32767, 3) := by decide +kernel
theorem dX1_isBatch_63 : decode cX1_isBatch 63 = .ok (.if_icmp .gt 11, 3) := by decide +kernel
theorem dX1_isBatch_66 : decode cX1_isBatch 66 = .ok (.iload_n 3, 1) := by decide +kernel
theorem dX1_isBatch_67 : decode cX1_isBatch 67 = .ok (.ifCond .lt 7, 3) := by decide +kernel
theorem dX1_isBatch_70 : decode cX1_isBatch 70 = .ok (.iconst 1, 1) := by decide +kernel
theorem dX1_isBatch_71 : decode cX1_isBatch 71 = .ok (.goto 4, 3) := by decide +kernel
theorem dX1_isBatch_74 : decode cX1_isBatch 74 = .ok (.iconst 0, 1) := by decide +kernel
theorem dX1_isBatch_75 : decode cX1_isBatch 75 = .ok (.invokestatic 33, 3) := by decide +kernel
theorem dX1_isBatch_78 : decode cX1_isBatch 78 = .ok (.return_, 1) := by decide +kernel
theorem dX1_need_0 : decode cX1_need 0 = .ok (.iload_n 0, 1) := by decide +kernel
theorem dX1_need_1 : decode cX1_need 1 = .ok (.ifCond .ne 11, 3) := by decide +kernel
theorem dX1_need_4 : decode cX1_need 4 = .ok (.new 25, 3) := by decide +kernel
theorem dX1_need_7 : decode cX1_need 7 = .ok (.dup, 1) := by decide +kernel
theorem dX1_need_8 : decode cX1_need 8 = .ok (.invokespecial 27, 3) := by decide +kernel
theorem dX1_need_11 : decode cX1_need 11 = .ok (.athrow, 1) := by decide +kernel
theorem dX1_need_12 : decode cX1_need 12 = .ok (.return_, 1) := by decide +kernel
theorem dX1_answer_0 : decode cX1_answer 0 = .ok (.lload_n 1, 1) := by decide +kernel
theorem dX1_answer_1 : decode cX1_answer 1 = .ok (.ldc2_w 31, 3) := by decide +kernel
theorem dX1_answer_4 : decode cX1_answer 4 = .ok (.lcmp, 1) := by decide +kernel
theorem dX1_answer_5 : decode cX1_answer 5 = .ok (.ifCond .ne 7, 3) := by decide +kernel
theorem dX1_answer_8 : decode cX1_answer 8 = .ok (.iconst (-1), 1) := by decide +kernel
theorem dX1_answer_9 : decode cX1_answer 9 = .ok (.goto 11, 3) := by decide +kernel
theorem dX1_answer_12 : decode cX1_answer 12 = .ok (.aload_n 0, 1) := by decide +kernel
theorem dX1_answer_13 : decode cX1_answer 13 = .ok (.getfield 21, 3) := by decide +kernel
theorem dX1_answer_16 : decode cX1_answer 16 = .ok (.lload_n 1, 1) := by decide +kernel
theorem dX1_answer_17 : decode cX1_answer 17 = .ok (.invokevirtual 39, 3) := by decide +kernel
theorem dX1_answer_20 : decode cX1_answer 20 = .ok (.istore 6, 2) := by decide +kernel
theorem dX1_answer_22 : decode cX1_answer 22 = .ok (.iload 6, 2) := by decide +kernel
theorem dX1_answer_24 : decode cX1_answer 24 = .ok (.iconst (-1), 1) := by decide +kernel
theorem dX1_answer_25 : decode cX1_answer 25 = .ok (.if_icmp .ne 5, 3) := by decide +kernel
theorem dX1_answer_28 : decode cX1_answer 28 = .ok (.iconst (-1), 1) := by decide +kernel
theorem dX1_answer_29 : decode cX1_answer 29 = .ok (.ireturn, 1) := by decide +kernel
theorem dX1_answer_30 : decode cX1_answer 30 = .ok (.aload_n 0, 1) := by decide +kernel
theorem dX1_answer_31 : decode cX1_answer 31 = .ok (.getfield 21, 3) := by decide +kernel
theorem dX1_answer_34 : decode cX1_answer 34 = .ok (.iload 6, 2) := by decide +kernel
theorem dX1_answer_36 : decode cX1_answer 36 = .ok (.iconst 0, 1) := by decide +kernel
theorem dX1_answer_37 : decode cX1_answer 37 = .ok (.invokevirtual 43, 3) := by decide +kernel
theorem dX1_answer_40 : decode cX1_answer 40 = .ok (.istore 7, 2) := by decide +kernel
theorem dX1_answer_42 : decode cX1_answer 42 = .ok (.iload_n 3, 1) := by decide +kernel
theorem dX1_answer_43 : decode cX1_answer 43 = .ok (.aload_n 0, 1) := by decide +kernel
theorem dX1_answer_44 : decode cX1_answer 44 = .ok (.getfield 10, 3) := by decide +kernel
theorem dX1_answer_47 : decode cX1_answer 47 = .ok (.getfield 47, 3) := by decide +kernel
theorem dX1_answer_50 : decode cX1_answer 50 = .ok (.iload 7, 2) := by decide +kernel
theorem dX1_answer_52 : decode cX1_answer 52 = .ok (.saload, 1) := by decide +kernel
theorem dX1_answer_53 : decode cX1_answer 53 = .ok (.if_icmp .ge 6, 3) := by decide +kernel
theorem dX1_answer_56 : decode cX1_answer 56 = .ok (.bipush (-6), 2) := by decide +kernel
theorem dX1_answer_58 : decode cX1_answer 58 = .ok (.ireturn, 1) := by decide +kernel
theorem dX1_answer_59 : decode cX1_answer 59 = .ok (.iconst 0, 1) := by decide +kernel
theorem dX1_answer_60 : decode cX1_answer 60 = .ok (.istore 8, 2) := by decide +kernel
theorem dX1_answer_62 : decode cX1_answer 62 = .ok (.iload 8, 2) := by decide +kernel
theorem dX1_answer_64 : decode cX1_answer 64 = .ok (.aload_n 0, 1) := by decide +kernel
theorem dX1_answer_65 : decode cX1_answer 65 = .ok (.getfield 21, 3) := by decide +kernel
theorem dX1_answer_68 : decode cX1_answer 68 = .ok (.iload 6, 2) := by decide +kernel
theorem dX1_answer_70 : decode cX1_answer 70 = .ok (.invokevirtual 51, 3) := by decide +kernel
theorem dX1_answer_73 : decode cX1_answer 73 = .ok (.if_icmp .ge 77, 3) := by decide +kernel
theorem dX1_answer_76 : decode cX1_answer 76 = .ok (.aload_n 0, 1) := by decide +kernel
theorem dX1_answer_77 : decode cX1_answer 77 = .ok (.getfield 21, 3) := by decide +kernel
theorem dX1_answer_80 : decode cX1_answer 80 = .ok (.iload 6, 2) := by decide +kernel
theorem dX1_answer_82 : decode cX1_answer 82 = .ok (.iload 8, 2) := by decide +kernel
theorem dX1_answer_84 : decode cX1_answer 84 = .ok (.invokevirtual 43, 3) := by decide +kernel
theorem dX1_answer_87 : decode cX1_answer 87 = .ok (.istore 9, 2) := by decide +kernel
theorem dX1_answer_89 : decode cX1_answer 89 = .ok (.aload_n 0, 1) := by decide +kernel
theorem dX1_answer_90 : decode cX1_answer 90 = .ok (.getfield 10, 3) := by decide +kernel
theorem dX1_answer_93 : decode cX1_answer 93 = .ok (.getfield 47, 3) := by decide +kernel
theorem dX1_answer_96 : decode cX1_answer 96 = .ok (.iload 9, 2) := by decide +kernel
theorem dX1_answer_98 : decode cX1_answer 98 = .ok (.saload, 1) := by decide +kernel
theorem dX1_answer_99 : decode cX1_answer 99 = .ok (.iload_n 3, 1) := by decide +kernel
theorem dX1_answer_100 : decode cX1_answer 100 = .ok (.if_icmp .ne 44, 3) := by decide +kernel
theorem dX1_answer_103 : decode cX1_answer 103 = .ok (.aload_n 0, 1) := by decide +kernel
theorem dX1_answer_104 : decode cX1_answer 104 = .ok (.getfield 10, 3) := by decide +kernel
theorem dX1_answer_107 : decode cX1_answer 107 = .ok (.getfield 55, 3) := by decide +kernel
theorem dX1_answer_110 : decode cX1_answer 110 = .ok (.iload 9, 2) := by decide +kernel
theorem dX1_answer_112 : decode cX1_answer 112 = .ok (.iaload, 1) := by decide +kernel
theorem dX1_answer_113 : decode cX1_answer 113 = .ok (.iload 4, 2) := by decide +kernel
theorem dX1_answer_115 : decode cX1_answer 115 = .ok (.if_icmp .ne 29, 3) := by decide +kernel
theorem dX1_answer_118 : decode cX1_answer 118 = .ok (.aload_n 0, 1) := by decide +kernel
theorem dX1_answer_119 : decode cX1_answer 119 = .ok (.getfield 10, 3) := by decide +kernel
theorem dX1_answer_122 : decode cX1_answer 122 = .ok (.getfield 59, 3) := by decide +kernel
theorem dX1_answer_125 : decode cX1_answer 125 = .ok (.iload 9, 2) := by decide +kernel
theorem dX1_answer_127 : decode cX1_answer 127 = .ok (.saload, 1) := by decide +kernel
theorem dX1_answer_128 : decode cX1_answer 128 = .ok (.iload 5, 2) := by decide +kernel
theorem dX1_answer_130 : decode cX1_answer 130 = .ok (.if_icmp .ne 14, 3) := by decide +kernel
theorem dX1_answer_133 : decode cX1_answer 133 = .ok (.aload_n 0, 1) := by decide +kernel
theorem dX1_answer_134 : decode cX1_answer 134 = .ok (.getfield 10, 3) := by decide +kernel
theorem dX1_answer_137 : decode cX1_answer 137 = .ok (.getfield 62, 3) := by decide +kernel
theorem dX1_answer_140 : decode cX1_answer 140 = .ok (.iload 9, 2) := by decide +kernel
theorem dX1_answer_142 : decode cX1_answer 142 = .ok (.iaload, 1) := by decide +kernel
theorem dX1_answer_143 : decode cX1_answer 143 = .ok (.ireturn, 1) := by decide +kernel
theorem dX1_answer_144 : decode cX1_answer 144 = .ok (.iinc 8 1, 3) := by decide +kernel
theorem dX1_answer_147 : decode cX1_answer 147 = .ok (.goto (-85), 3) := by decide +kernel
theorem dX1_answer_150 : decode cX1_answer 150 = .ok (.iload 4, 2) := by decide +kernel
theorem dX1_answer_152 : decode cX1_answer 152 = .ok (.iload_n 3, 1) := by decide +kernel
theorem dX1_answer_153 : decode cX1_answer 153 = .ok (.aload_n 0, 1) := by decide +kernel
theorem dX1_answer_154 : decode cX1_answer 154 = .ok (.getfield 10, 3) := by decide +kernel
theorem dX1_answer_157 : decode cX1_answer 157 = .ok (.getfield 47, 3) := by decide +kernel
theorem dX1_answer_160 : decode cX1_answer 160 = .ok (.iload 7, 2) := by decide +kernel
theorem dX1_answer_162 : decode cX1_answer 162 = .ok (.saload, 1) := by decide +kernel
theorem dX1_answer_163 : decode cX1_answer 163 = .ok (.if_icmp .ne 15, 3) := by decide +kernel
theorem dX1_answer_166 : decode cX1_answer 166 = .ok (.aload_n 0, 1) := by decide +kernel
theorem dX1_answer_167 : decode cX1_answer 167 = .ok (.getfield 10, 3) := by decide +kernel
theorem dX1_answer_170 : decode cX1_answer 170 = .ok (.iload 7, 2) := by decide +kernel
theorem dX1_answer_172 : decode cX1_answer 172 = .ok (.invokevirtual 65, 3) := by decide +kernel
theorem dX1_answer_175 : decode cX1_answer 175 = .ok (.goto 4, 3) := by decide +kernel
theorem dX1_answer_178 : decode cX1_answer 178 = .ok (.iconst 0, 1) := by decide +kernel
theorem dX1_answer_179 : decode cX1_answer 179 = .ok (.if_icmp .ne 7, 3) := by decide +kernel
theorem dX1_answer_182 : decode cX1_answer 182 = .ok (.iconst (-1), 1) := by decide +kernel
theorem dX1_answer_183 : decode cX1_answer 183 = .ok (.goto 5, 3) := by decide +kernel
theorem dX1_answer_186 : decode cX1_answer 186 = .ok (.bipush (-7), 2) := by decide +kernel
theorem dX1_answer_188 : decode cX1_answer 188 = .ok (.ireturn, 1) := by decide +kernel
theorem dX1_may_0 : decode cX1_may 0 = .ok (.iload_n 0, 1) := by decide +kernel
theorem dX1_may_1 : decode cX1_may 1 = .ok (.ifCond .ne 11, 3) := by decide +kernel
theorem dX1_may_4 : decode cX1_may 4 = .ok (.new 28, 3) := by decide +kernel
theorem dX1_may_7 : decode cX1_may 7 = .ok (.dup, 1) := by decide +kernel
theorem dX1_may_8 : decode cX1_may 8 = .ok (.invokespecial 30, 3) := by decide +kernel
theorem dX1_may_11 : decode cX1_may 11 = .ok (.athrow, 1) := by decide +kernel
theorem dX1_may_12 : decode cX1_may 12 = .ok (.return_, 1) := by decide +kernel
theorem dX1_send_0 : decode cX1_send 0 = .ok (.aload_n 0, 1) := by decide +kernel
theorem dX1_send_1 : decode cX1_send 1 = .ok (.getfield 10, 3) := by decide +kernel
theorem dX1_send_4 : decode cX1_send 4 = .ok (.lload_n 1, 1) := by decide +kernel
theorem dX1_send_5 : decode cX1_send 5 = .ok (.iload_n 3, 1) := by decide +kernel
theorem dX1_send_6 : decode cX1_send 6 = .ok (.iload 4, 2) := by decide +kernel
theorem dX1_send_8 : decode cX1_send 8 = .ok (.iload 5, 2) := by decide +kernel
theorem dX1_send_10 : decode cX1_send 10 = .ok (.invokevirtual 68, 3) := by decide +kernel
theorem dX1_send_13 : decode cX1_send 13 = .ok (.aload_n 0, 1) := by decide +kernel
theorem dX1_send_14 : decode cX1_send 14 = .ok (.getfield 21, 3) := by decide +kernel
theorem dX1_send_17 : decode cX1_send 17 = .ok (.aload_n 0, 1) := by decide +kernel
theorem dX1_send_18 : decode cX1_send 18 = .ok (.getfield 10, 3) := by decide +kernel
theorem dX1_send_21 : decode cX1_send 21 = .ok (.getfield 72, 3) := by decide +kernel
theorem dX1_send_24 : decode cX1_send 24 = .ok (.iconst 1, 1) := by decide +kernel
theorem dX1_send_25 : decode cX1_send 25 = .ok (.isub, 1) := by decide +kernel
theorem dX1_send_26 : decode cX1_send 26 = .ok (.invokevirtual 76, 3) := by decide +kernel
theorem dX1_send_29 : decode cX1_send 29 = .ok (.aload_n 0, 1) := by decide +kernel
theorem dX1_send_30 : decode cX1_send 30 = .ok (.getfield 10, 3) := by decide +kernel
theorem dX1_send_33 : decode cX1_send 33 = .ok (.getfield 62, 3) := by decide +kernel
theorem dX1_send_36 : decode cX1_send 36 = .ok (.aload_n 0, 1) := by decide +kernel
theorem dX1_send_37 : decode cX1_send 37 = .ok (.getfield 10, 3) := by decide +kernel
theorem dX1_send_40 : decode cX1_send 40 = .ok (.getfield 72, 3) := by decide +kernel
theorem dX1_send_43 : decode cX1_send 43 = .ok (.iconst 1, 1) := by decide +kernel
theorem dX1_send_44 : decode cX1_send 44 = .ok (.isub, 1) := by decide +kernel
theorem dX1_send_45 : decode cX1_send 45 = .ok (.iaload, 1) := by decide +kernel
theorem dX1_send_46 : decode cX1_send 46 = .ok (.ireturn, 1) := by decide +kernel
theorem dX1_offers_0 : decode cX1_offers 0 = .ok (.lload_n 2, 1) := by decide +kernel
theorem dX1_offers_1 : decode cX1_offers 1 = .ok (.iload 4, 2) := by decide +kernel
theorem dX1_offers_3 : decode cX1_offers 3 = .ok (.iload 5, 2) := by decide +kernel
theorem dX1_offers_5 : decode cX1_offers 5 = .ok (.iload 6, 2) := by decide +kernel
theorem dX1_offers_7 : decode cX1_offers 7 = .ok (.invokestatic 80, 3) := by decide +kernel
theorem dX1_offers_10 : decode cX1_offers 10 = .ok (.iload_n 1, 1) := by decide +kernel
theorem dX1_offers_11 : decode cX1_offers 11 = .ok (.iconst 1, 1) := by decide +kernel
theorem dX1_offers_12 : decode cX1_offers 12 = .ok (.if_icmp .lt 14, 3) := by decide +kernel
theorem dX1_offers_15 : decode cX1_offers 15 = .ok (.iload_n 1, 1) := by decide +kernel
theorem dX1_offers_16 : decode cX1_offers 16 = .ok (.sipush 500, 3) := by decide +kernel
theorem dX1_offers_19 : decode cX1_offers 19 = .ok (.if_icmp .gt 7, 3) := by decide +kernel
theorem dX1_offers_22 : decode cX1_offers 22 = .ok (.iconst 1, 1) := by decide +kernel
theorem dX1_offers_23 : decode cX1_offers 23 = .ok (.goto 4, 3) := by decide +kernel
theorem dX1_offers_26 : decode cX1_offers 26 = .ok (.iconst 0, 1) := by decide +kernel
theorem dX1_offers_27 : decode cX1_offers 27 = .ok (.invokestatic 33, 3) := by decide +kernel
theorem dX1_offers_30 : decode cX1_offers 30 = .ok (.aload_n 0, 1) := by decide +kernel
theorem dX1_offers_31 : decode cX1_offers 31 = .ok (.getfield 10, 3) := by decide +kernel
theorem dX1_offers_34 : decode cX1_offers 34 = .ok (.getfield 72, 3) := by decide +kernel
theorem dX1_offers_37 : decode cX1_offers 37 = .ok (.iload_n 1, 1) := by decide +kernel
theorem dX1_offers_38 : decode cX1_offers 38 = .ok (.iadd, 1) := by decide +kernel
theorem dX1_offers_39 : decode cX1_offers 39 = .ok (.sipush 2000, 3) := by decide +kernel
theorem dX1_offers_42 : decode cX1_offers 42 = .ok (.if_icmp .gt 26, 3) := by decide +kernel
theorem dX1_offers_45 : decode cX1_offers 45 = .ok (.aload_n 0, 1) := by decide +kernel
theorem dX1_offers_46 : decode cX1_offers 46 = .ok (.getfield 10, 3) := by decide +kernel
theorem dX1_offers_49 : decode cX1_offers 49 = .ok (.getfield 87, 3) := by decide +kernel
theorem dX1_offers_52 : decode cX1_offers 52 = .ok (.iload_n 1, 1) := by decide +kernel
theorem dX1_offers_53 : decode cX1_offers 53 = .ok (.iload 6, 2) := by decide +kernel
theorem dX1_offers_55 : decode cX1_offers 55 = .ok (.iconst 1, 1) := by decide +kernel
theorem dX1_offers_56 : decode cX1_offers 56 = .ok (.iadd, 1) := by decide +kernel
theorem dX1_offers_57 : decode cX1_offers 57 = .ok (.imul, 1) := by decide +kernel
theorem dX1_offers_58 : decode cX1_offers 58 = .ok (.iadd, 1) := by decide +kernel
theorem dX1_offers_59 : decode cX1_offers 59 = .ok (.ldc 90, 2) := by decide +kernel
theorem dX1_offers_61 : decode cX1_offers 61 = .ok (.if_icmp .gt 7, 3) := by decide +kernel
theorem dX1_offers_64 : decode cX1_offers 64 = .ok (.iconst 1, 1) := by decide +kernel
theorem dX1_offers_65 : decode cX1_offers 65 = .ok (.goto 4, 3) := by decide +kernel
theorem dX1_offers_68 : decode cX1_offers 68 = .ok (.iconst 0, 1) := by decide +kernel
theorem dX1_offers_69 : decode cX1_offers 69 = .ok (.invokestatic 91, 3) := by decide +kernel
theorem dX1_offers_72 : decode cX1_offers 72 = .ok (.iconst 0, 1) := by decide +kernel
theorem dX1_offers_73 : decode cX1_offers 73 = .ok (.istore 7, 2) := by decide +kernel
theorem dX1_offers_75 : decode cX1_offers 75 = .ok (.iload 5, 2) := by decide +kernel
theorem dX1_offers_77 : decode cX1_offers 77 = .ok (.istore 8, 2) := by decide +kernel
theorem dX1_offers_79 : decode cX1_offers 79 = .ok (.iconst 0, 1) := by decide +kernel
theorem dX1_offers_80 : decode cX1_offers 80 = .ok (.istore 9, 2) := by decide +kernel
theorem dX1_offers_82 : decode cX1_offers 82 = .ok (.iload 9, 2) := by decide +kernel
theorem dX1_offers_84 : decode cX1_offers 84 = .ok (.iload_n 1, 1) := by decide +kernel
theorem dX1_offers_85 : decode cX1_offers 85 = .ok (.if_icmp .ge 64, 3) := by decide +kernel
theorem dX1_offers_88 : decode cX1_offers 88 = .ok (.aload_n 0, 1) := by decide +kernel
theorem dX1_offers_89 : decode cX1_offers 89 = .ok (.lload_n 2, 1) := by decide +kernel
theorem dX1_offers_90 : decode cX1_offers 90 = .ok (.iload 4, 2) := by decide +kernel
theorem dX1_offers_92 : decode cX1_offers 92 = .ok (.iload 8, 2) := by decide +kernel
theorem dX1_offers_94 : decode cX1_offers 94 = .ok (.iload 6, 2) := by decide +kernel
theorem dX1_offers_96 : decode cX1_offers 96 = .ok (.invokevirtual 83, 3) := by decide +kernel
theorem dX1_offers_99 : decode cX1_offers 99 = .ok (.iconst (-1), 1) := by decide +kernel
theorem dX1_offers_100 : decode cX1_offers 100 = .ok (.if_icmp .ne 19, 3) := by decide +kernel
theorem dX1_offers_103 : decode cX1_offers 103 = .ok (.aload_n 0, 1) := by decide +kernel
theorem dX1_offers_104 : decode cX1_offers 104 = .ok (.lload_n 2, 1) := by decide +kernel
theorem dX1_offers_105 : decode cX1_offers 105 = .ok (.iload 4, 2) := by decide +kernel
theorem dX1_offers_107 : decode cX1_offers 107 = .ok (.iload 8, 2) := by decide +kernel
theorem dX1_offers_109 : decode cX1_offers 109 = .ok (.iload 6, 2) := by decide +kernel
theorem dX1_offers_111 : decode cX1_offers 111 = .ok (.invokevirtual 94, 3) := by decide +kernel
theorem dX1_offers_114 : decode cX1_offers 114 = .ok (.istore 10, 2) := by decide +kernel
theorem dX1_offers_116 : decode cX1_offers 116 = .ok (.iinc 7 1, 3) := by decide +kernel
theorem dX1_offers_119 : decode cX1_offers 119 = .ok (.lload_n 2, 1) := by decide +kernel
theorem dX1_offers_120 : decode cX1_offers 120 = .ok (.ldc2_w 31, 3) := by decide +kernel
theorem dX1_offers_123 : decode cX1_offers 123 = .ok (.lcmp, 1) := by decide +kernel
theorem dX1_offers_124 : decode cX1_offers 124 = .ok (.ifCond .ne 7, 3) := by decide +kernel
theorem dX1_offers_127 : decode cX1_offers 127 = .ok (.iconst (-1), 1) := by decide +kernel
theorem dX1_offers_128 : decode cX1_offers 128 = .ok (.goto 13, 3) := by decide +kernel
theorem dX1_offers_131 : decode cX1_offers 131 = .ok (.iload 8, 2) := by decide +kernel
theorem dX1_offers_133 : decode cX1_offers 133 = .ok (.iload 6, 2) := by decide +kernel
theorem dX1_offers_135 : decode cX1_offers 135 = .ok (.iadd, 1) := by decide +kernel
theorem dX1_offers_136 : decode cX1_offers 136 = .ok (.iconst 1, 1) := by decide +kernel
theorem dX1_offers_137 : decode cX1_offers 137 = .ok (.iadd, 1) := by decide +kernel
theorem dX1_offers_138 : decode cX1_offers 138 = .ok (.ldc 97, 2) := by decide +kernel
theorem dX1_offers_140 : decode cX1_offers 140 = .ok (.iand, 1) := by decide +kernel
theorem dX1_offers_141 : decode cX1_offers 141 = .ok (.istore 8, 2) := by decide +kernel
theorem dX1_offers_143 : decode cX1_offers 143 = .ok (.iinc 9 1, 3) := by decide +kernel
theorem dX1_offers_146 : decode cX1_offers 146 = .ok (.goto (-64), 3) := by decide +kernel
theorem dX1_offers_149 : decode cX1_offers 149 = .ok (.iload 7, 2) := by decide +kernel
theorem dX1_offers_151 : decode cX1_offers 151 = .ok (.ireturn, 1) := by decide +kernel
theorem dX1_drop_0 : decode cX1_drop 0 = .ok (.iload_n 1, 1) := by decide +kernel
theorem dX1_drop_1 : decode cX1_drop 1 = .ok (.ifCond .lt 14, 3) := by decide +kernel
theorem dX1_drop_4 : decode cX1_drop 4 = .ok (.iload_n 1, 1) := by decide +kernel
theorem dX1_drop_5 : decode cX1_drop 5 = .ok (.sipush 2000, 3) := by decide +kernel
theorem dX1_drop_8 : decode cX1_drop 8 = .ok (.if_icmp .gt 7, 3) := by decide +kernel
theorem dX1_drop_11 : decode cX1_drop 11 = .ok (.iconst 1, 1) := by decide +kernel
theorem dX1_drop_12 : decode cX1_drop 12 = .ok (.goto 4, 3) := by decide +kernel
theorem dX1_drop_15 : decode cX1_drop 15 = .ok (.iconst 0, 1) := by decide +kernel
theorem dX1_drop_16 : decode cX1_drop 16 = .ok (.invokestatic 33, 3) := by decide +kernel
theorem dX1_drop_19 : decode cX1_drop 19 = .ok (.iload_n 1, 1) := by decide +kernel
theorem dX1_drop_20 : decode cX1_drop 20 = .ok (.aload_n 0, 1) := by decide +kernel
theorem dX1_drop_21 : decode cX1_drop 21 = .ok (.getfield 10, 3) := by decide +kernel
theorem dX1_drop_24 : decode cX1_drop 24 = .ok (.getfield 72, 3) := by decide +kernel
theorem dX1_drop_27 : decode cX1_drop 27 = .ok (.invokestatic 98, 3) := by decide +kernel
theorem dX1_drop_30 : decode cX1_drop 30 = .ok (.istore_n 2, 1) := by decide +kernel
theorem dX1_drop_31 : decode cX1_drop 31 = .ok (.iload_n 2, 1) := by decide +kernel
theorem dX1_drop_32 : decode cX1_drop 32 = .ok (.istore_n 3, 1) := by decide +kernel
theorem dX1_drop_33 : decode cX1_drop 33 = .ok (.iload_n 3, 1) := by decide +kernel
theorem dX1_drop_34 : decode cX1_drop 34 = .ok (.aload_n 0, 1) := by decide +kernel
theorem dX1_drop_35 : decode cX1_drop 35 = .ok (.getfield 10, 3) := by decide +kernel
theorem dX1_drop_38 : decode cX1_drop 38 = .ok (.getfield 72, 3) := by decide +kernel
theorem dX1_drop_41 : decode cX1_drop 41 = .ok (.if_icmp .ge 20, 3) := by decide +kernel
theorem dX1_drop_44 : decode cX1_drop 44 = .ok (.aload_n 0, 1) := by decide +kernel
theorem dX1_drop_45 : decode cX1_drop 45 = .ok (.getfield 10, 3) := by decide +kernel
theorem dX1_drop_48 : decode cX1_drop 48 = .ok (.iload_n 3, 1) := by decide +kernel
theorem dX1_drop_49 : decode cX1_drop 49 = .ok (.iload_n 3, 1) := by decide +kernel
theorem dX1_drop_50 : decode cX1_drop 50 = .ok (.iload_n 2, 1) := by decide +kernel
theorem dX1_drop_51 : decode cX1_drop 51 = .ok (.isub, 1) := by decide +kernel
theorem dX1_drop_52 : decode cX1_drop 52 = .ok (.invokevirtual 103, 3) := by decide +kernel
theorem dX1_drop_55 : decode cX1_drop 55 = .ok (.iinc 3 1, 3) := by decide +kernel
theorem dX1_drop_58 : decode cX1_drop 58 = .ok (.goto (-25), 3) := by decide +kernel
theorem dX1_drop_61 : decode cX1_drop 61 = .ok (.aload_n 0, 1) := by decide +kernel
theorem dX1_drop_62 : decode cX1_drop 62 = .ok (.getfield 10, 3) := by decide +kernel
theorem dX1_drop_65 : decode cX1_drop 65 = .ok (.dup, 1) := by decide +kernel
theorem dX1_drop_66 : decode cX1_drop 66 = .ok (.getfield 72, 3) := by decide +kernel
theorem dX1_drop_69 : decode cX1_drop 69 = .ok (.iload_n 2, 1) := by decide +kernel
theorem dX1_drop_70 : decode cX1_drop 70 = .ok (.isub, 1) := by decide +kernel
theorem dX1_drop_71 : decode cX1_drop 71 = .ok (.putfield 72, 3) := by decide +kernel
theorem dX1_drop_74 : decode cX1_drop 74 = .ok (.aload_n 0, 1) := by decide +kernel
theorem dX1_drop_75 : decode cX1_drop 75 = .ok (.getfield 21, 3) := by decide +kernel
theorem dX1_drop_78 : decode cX1_drop 78 = .ok (.invokevirtual 107, 3) := by decide +kernel
theorem dX1_drop_81 : decode cX1_drop 81 = .ok (.iload_n 2, 1) := by decide +kernel
theorem dX1_drop_82 : decode cX1_drop 82 = .ok (.ireturn, 1) := by decide +kernel
theorem dX1_known_0 : decode cX1_known 0 = .ok (.lload_n 1, 1) := by decide +kernel
theorem dX1_known_1 : decode cX1_known 1 = .ok (.lconst 0, 1) := by decide +kernel
theorem dX1_known_2 : decode cX1_known 2 = .ok (.lcmp, 1) := by decide +kernel
theorem dX1_known_3 : decode cX1_known 3 = .ok (.ifCond .lt 16, 3) := by decide +kernel
theorem dX1_known_6 : decode cX1_known 6 = .ok (.iload_n 3, 1) := by decide +kernel
theorem dX1_known_7 : decode cX1_known 7 = .ok (.ifCond .lt 12, 3) := by decide +kernel
theorem dX1_known_10 : decode cX1_known 10 = .ok (.iload_n 3, 1) := by decide +kernel
theorem dX1_known_11 : decode cX1_known 11 = .ok (.iconst 4, 1) := by decide +kernel
theorem dX1_known_12 : decode cX1_known 12 = .ok (.if_icmp .gt 7, 3) := by decide +kernel
theorem dX1_known_15 : decode cX1_known 15 = .ok (.iconst 1, 1) := by decide +kernel
theorem dX1_known_16 : decode cX1_known 16 = .ok (.goto 4, 3) := by decide +kernel
theorem dX1_known_19 : decode cX1_known 19 = .ok (.iconst 0, 1) := by decide +kernel
theorem dX1_known_20 : decode cX1_known 20 = .ok (.invokestatic 33, 3) := by decide +kernel
theorem dX1_known_23 : decode cX1_known 23 = .ok (.aload_n 0, 1) := by decide +kernel
theorem dX1_known_24 : decode cX1_known 24 = .ok (.getfield 21, 3) := by decide +kernel
theorem dX1_known_27 : decode cX1_known 27 = .ok (.lload_n 1, 1) := by decide +kernel
theorem dX1_known_28 : decode cX1_known 28 = .ok (.invokevirtual 39, 3) := by decide +kernel
theorem dX1_known_31 : decode cX1_known 31 = .ok (.istore 4, 2) := by decide +kernel
theorem dX1_known_33 : decode cX1_known 33 = .ok (.iload 4, 2) := by decide +kernel
theorem dX1_known_35 : decode cX1_known 35 = .ok (.iconst (-1), 1) := by decide +kernel
theorem dX1_known_36 : decode cX1_known 36 = .ok (.if_icmp .ne 13, 3) := by decide +kernel
theorem dX1_known_39 : decode cX1_known 39 = .ok (.iload_n 3, 1) := by decide +kernel
theorem dX1_known_40 : decode cX1_known 40 = .ok (.ifCond .ne 7, 3) := by decide +kernel
theorem dX1_known_43 : decode cX1_known 43 = .ok (.iconst 0, 1) := by decide +kernel
theorem dX1_known_44 : decode cX1_known 44 = .ok (.goto 4, 3) := by decide +kernel
theorem dX1_known_47 : decode cX1_known 47 = .ok (.iconst (-1), 1) := by decide +kernel
theorem dX1_known_48 : decode cX1_known 48 = .ok (.ireturn, 1) := by decide +kernel
theorem dX1_known_49 : decode cX1_known 49 = .ok (.aload_n 0, 1) := by decide +kernel
theorem dX1_known_50 : decode cX1_known 50 = .ok (.getfield 21, 3) := by decide +kernel
theorem dX1_known_53 : decode cX1_known 53 = .ok (.iload 4, 2) := by decide +kernel
theorem dX1_known_55 : decode cX1_known 55 = .ok (.iconst 0, 1) := by decide +kernel
theorem dX1_known_56 : decode cX1_known 56 = .ok (.invokevirtual 43, 3) := by decide +kernel
theorem dX1_known_59 : decode cX1_known 59 = .ok (.istore 5, 2) := by decide +kernel
theorem dX1_known_61 : decode cX1_known 61 = .ok (.iload_n 3, 1) := by decide +kernel
theorem dX1_known_62 : decode cX1_known 62 = .ok (.tableswitch 72 0 3 #[30, 40, 51, 61], 30) := by decide +kernel
theorem dX1_known_92 : decode cX1_known 92 = .ok (.aload_n 0, 1) := by decide +kernel
theorem dX1_known_93 : decode cX1_known 93 = .ok (.getfield 21, 3) := by decide +kernel
theorem dX1_known_96 : decode cX1_known 96 = .ok (.iload 4, 2) := by decide +kernel
theorem dX1_known_98 : decode cX1_known 98 = .ok (.invokevirtual 51, 3) := by decide +kernel
theorem dX1_known_101 : decode cX1_known 101 = .ok (.ireturn, 1) := by decide +kernel
theorem dX1_known_102 : decode cX1_known 102 = .ok (.aload_n 0, 1) := by decide +kernel
theorem dX1_known_103 : decode cX1_known 103 = .ok (.getfield 10, 3) := by decide +kernel
theorem dX1_known_106 : decode cX1_known 106 = .ok (.getfield 47, 3) := by decide +kernel
theorem dX1_known_109 : decode cX1_known 109 = .ok (.iload 5, 2) := by decide +kernel
theorem dX1_known_111 : decode cX1_known 111 = .ok (.saload, 1) := by decide +kernel
theorem dX1_known_112 : decode cX1_known 112 = .ok (.ireturn, 1) := by decide +kernel
theorem dX1_known_113 : decode cX1_known 113 = .ok (.aload_n 0, 1) := by decide +kernel
theorem dX1_known_114 : decode cX1_known 114 = .ok (.getfield 10, 3) := by decide +kernel
theorem dX1_known_117 : decode cX1_known 117 = .ok (.iload 5, 2) := by decide +kernel
theorem dX1_known_119 : decode cX1_known 119 = .ok (.invokevirtual 65, 3) := by decide +kernel
theorem dX1_known_122 : decode cX1_known 122 = .ok (.ireturn, 1) := by decide +kernel
theorem dX1_known_123 : decode cX1_known 123 = .ok (.aload_n 0, 1) := by decide +kernel
theorem dX1_known_124 : decode cX1_known 124 = .ok (.getfield 10, 3) := by decide +kernel
theorem dX1_known_127 : decode cX1_known 127 = .ok (.getfield 62, 3) := by decide +kernel
theorem dX1_known_130 : decode cX1_known 130 = .ok (.iload 5, 2) := by decide +kernel
theorem dX1_known_132 : decode cX1_known 132 = .ok (.iaload, 1) := by decide +kernel
theorem dX1_known_133 : decode cX1_known 133 = .ok (.ireturn, 1) := by decide +kernel
theorem dX1_known_134 : decode cX1_known 134 = .ok (.aload_n 0, 1) := by decide +kernel
theorem dX1_known_135 : decode cX1_known 135 = .ok (.getfield 10, 3) := by decide +kernel
theorem dX1_known_138 : decode cX1_known 138 = .ok (.getfield 62, 3) := by decide +kernel
theorem dX1_known_141 : decode cX1_known 141 = .ok (.aload_n 0, 1) := by decide +kernel
theorem dX1_known_142 : decode cX1_known 142 = .ok (.getfield 21, 3) := by decide +kernel
theorem dX1_known_145 : decode cX1_known 145 = .ok (.iload 4, 2) := by decide +kernel
theorem dX1_known_147 : decode cX1_known 147 = .ok (.aload_n 0, 1) := by decide +kernel
theorem dX1_known_148 : decode cX1_known 148 = .ok (.getfield 21, 3) := by decide +kernel
theorem dX1_known_151 : decode cX1_known 151 = .ok (.iload 4, 2) := by decide +kernel
theorem dX1_known_153 : decode cX1_known 153 = .ok (.invokevirtual 51, 3) := by decide +kernel
theorem dX1_known_156 : decode cX1_known 156 = .ok (.iconst 1, 1) := by decide +kernel
theorem dX1_known_157 : decode cX1_known 157 = .ok (.isub, 1) := by decide +kernel
theorem dX1_known_158 : decode cX1_known 158 = .ok (.invokevirtual 43, 3) := by decide +kernel
theorem dX1_known_161 : decode cX1_known 161 = .ok (.iaload, 1) := by decide +kernel
theorem dX1_known_162 : decode cX1_known 162 = .ok (.ireturn, 1) := by decide +kernel
theorem dX1_batch_0 : decode cX1_batch 0 = .ok (.iload_n 1, 1) := by decide +kernel
theorem dX1_batch_1 : decode cX1_batch 1 = .ok (.ifCond .lt 27, 3) := by decide +kernel
theorem dX1_batch_4 : decode cX1_batch 4 = .ok (.iload_n 1, 1) := by decide +kernel
theorem dX1_batch_5 : decode cX1_batch 5 = .ok (.aload_n 0, 1) := by decide +kernel
theorem dX1_batch_6 : decode cX1_batch 6 = .ok (.getfield 10, 3) := by decide +kernel
theorem dX1_batch_9 : decode cX1_batch 9 = .ok (.getfield 72, 3) := by decide +kernel
theorem dX1_batch_12 : decode cX1_batch 12 = .ok (.if_icmp .ge 16, 3) := by decide +kernel
theorem dX1_batch_15 : decode cX1_batch 15 = .ok (.iload_n 2, 1) := by decide +kernel
theorem dX1_batch_16 : decode cX1_batch 16 = .ok (.ifCond .lt 12, 3) := by decide +kernel
theorem dX1_batch_19 : decode cX1_batch 19 = .ok (.iload_n 2, 1) := by decide +kernel
theorem dX1_batch_20 : decode cX1_batch 20 = .ok (.iconst 5, 1) := by decide +kernel
theorem dX1_batch_21 : decode cX1_batch 21 = .ok (.if_icmp .gt 7, 3) := by decide +kernel
theorem dX1_batch_24 : decode cX1_batch 24 = .ok (.iconst 1, 1) := by decide +kernel
theorem dX1_batch_25 : decode cX1_batch 25 = .ok (.goto 4, 3) := by decide +kernel
theorem dX1_batch_28 : decode cX1_batch 28 = .ok (.iconst 0, 1) := by decide +kernel
theorem dX1_batch_29 : decode cX1_batch 29 = .ok (.invokestatic 33, 3) := by decide +kernel
theorem dX1_batch_32 : decode cX1_batch 32 = .ok (.iload_n 2, 1) := by decide +kernel
theorem dX1_batch_33 : decode cX1_batch 33 = .ok (.tableswitch 89 0 4 #[35, 46, 56, 67, 78], 35) := by decide +kernel
theorem dX1_batch_68 : decode cX1_batch 68 = .ok (.aload_n 0, 1) := by decide +kernel
theorem dX1_batch_69 : decode cX1_batch 69 = .ok (.getfield 10, 3) := by decide +kernel
theorem dX1_batch_72 : decode cX1_batch 72 = .ok (.getfield 62, 3) := by decide +kernel
theorem dX1_batch_75 : decode cX1_batch 75 = .ok (.iload_n 1, 1) := by decide +kernel
theorem dX1_batch_76 : decode cX1_batch 76 = .ok (.iaload, 1) := by decide +kernel
theorem dX1_batch_77 : decode cX1_batch 77 = .ok (.i2l, 1) := by decide +kernel
theorem dX1_batch_78 : decode cX1_batch 78 = .ok (.lreturn, 1) := by decide +kernel
theorem dX1_batch_79 : decode cX1_batch 79 = .ok (.aload_n 0, 1) := by decide +kernel
theorem dX1_batch_80 : decode cX1_batch 80 = .ok (.getfield 10, 3) := by decide +kernel
theorem dX1_batch_83 : decode cX1_batch 83 = .ok (.getfield 113, 3) := by decide +kernel
theorem dX1_batch_86 : decode cX1_batch 86 = .ok (.iload_n 1, 1) := by decide +kernel
theorem dX1_batch_87 : decode cX1_batch 87 = .ok (.laload, 1) := by decide +kernel
theorem dX1_batch_88 : decode cX1_batch 88 = .ok (.lreturn, 1) := by decide +kernel
theorem dX1_batch_89 : decode cX1_batch 89 = .ok (.aload_n 0, 1) := by decide +kernel
theorem dX1_batch_90 : decode cX1_batch 90 = .ok (.getfield 10, 3) := by decide +kernel
theorem dX1_batch_93 : decode cX1_batch 93 = .ok (.getfield 47, 3) := by decide +kernel
theorem dX1_batch_96 : decode cX1_batch 96 = .ok (.iload_n 1, 1) := by decide +kernel
theorem dX1_batch_97 : decode cX1_batch 97 = .ok (.saload, 1) := by decide +kernel
theorem dX1_batch_98 : decode cX1_batch 98 = .ok (.i2l, 1) := by decide +kernel
theorem dX1_batch_99 : decode cX1_batch 99 = .ok (.lreturn, 1) := by decide +kernel
theorem dX1_batch_100 : decode cX1_batch 100 = .ok (.aload_n 0, 1) := by decide +kernel
theorem dX1_batch_101 : decode cX1_batch 101 = .ok (.getfield 10, 3) := by decide +kernel
theorem dX1_batch_104 : decode cX1_batch 104 = .ok (.getfield 55, 3) := by decide +kernel
theorem dX1_batch_107 : decode cX1_batch 107 = .ok (.iload_n 1, 1) := by decide +kernel
theorem dX1_batch_108 : decode cX1_batch 108 = .ok (.iaload, 1) := by decide +kernel
theorem dX1_batch_109 : decode cX1_batch 109 = .ok (.i2l, 1) := by decide +kernel
theorem dX1_batch_110 : decode cX1_batch 110 = .ok (.lreturn, 1) := by decide +kernel
theorem dX1_batch_111 : decode cX1_batch 111 = .ok (.aload_n 0, 1) := by decide +kernel
theorem dX1_batch_112 : decode cX1_batch 112 = .ok (.getfield 10, 3) := by decide +kernel
theorem dX1_batch_115 : decode cX1_batch 115 = .ok (.getfield 59, 3) := by decide +kernel
theorem dX1_batch_118 : decode cX1_batch 118 = .ok (.iload_n 1, 1) := by decide +kernel
theorem dX1_batch_119 : decode cX1_batch 119 = .ok (.saload, 1) := by decide +kernel
theorem dX1_batch_120 : decode cX1_batch 120 = .ok (.i2l, 1) := by decide +kernel
theorem dX1_batch_121 : decode cX1_batch 121 = .ok (.lreturn, 1) := by decide +kernel
theorem dX1_batch_122 : decode cX1_batch 122 = .ok (.aload_n 0, 1) := by decide +kernel
theorem dX1_batch_123 : decode cX1_batch 123 = .ok (.getfield 10, 3) := by decide +kernel
theorem dX1_batch_126 : decode cX1_batch 126 = .ok (.getfield 110, 3) := by decide +kernel
theorem dX1_batch_129 : decode cX1_batch 129 = .ok (.iload_n 1, 1) := by decide +kernel
theorem dX1_batch_130 : decode cX1_batch 130 = .ok (.baload, 1) := by decide +kernel
theorem dX1_batch_131 : decode cX1_batch 131 = .ok (.ifCond .eq 7, 3) := by decide +kernel
theorem dX1_batch_134 : decode cX1_batch 134 = .ok (.lconst 1, 1) := by decide +kernel
theorem dX1_batch_135 : decode cX1_batch 135 = .ok (.goto 4, 3) := by decide +kernel
theorem dX1_batch_138 : decode cX1_batch 138 = .ok (.lconst 0, 1) := by decide +kernel
theorem dX1_batch_139 : decode cX1_batch 139 = .ok (.lreturn, 1) := by decide +kernel
theorem dX1_count_0 : decode cX1_count 0 = .ok (.iload_n 1, 1) := by decide +kernel
theorem dX1_count_1 : decode cX1_count 1 = .ok (.ifCond .lt 12, 3) := by decide +kernel
theorem dX1_count_4 : decode cX1_count 4 = .ok (.iload_n 1, 1) := by decide +kernel
theorem dX1_count_5 : decode cX1_count 5 = .ok (.iconst 2, 1) := by decide +kernel
theorem dX1_count_6 : decode cX1_count 6 = .ok (.if_icmp .gt 7, 3) := by decide +kernel
theorem dX1_count_9 : decode cX1_count 9 = .ok (.iconst 1, 1) := by decide +kernel
theorem dX1_count_10 : decode cX1_count 10 = .ok (.goto 4, 3) := by decide +kernel
theorem dX1_count_13 : decode cX1_count 13 = .ok (.iconst 0, 1) := by decide +kernel
theorem dX1_count_14 : decode cX1_count 14 = .ok (.invokestatic 33, 3) := by decide +kernel
theorem dX1_count_17 : decode cX1_count 17 = .ok (.iload_n 1, 1) := by decide +kernel
theorem dX1_count_18 : decode cX1_count 18 = .ok (.ifCond .ne 13, 3) := by decide +kernel
theorem dX1_count_21 : decode cX1_count 21 = .ok (.aload_n 0, 1) := by decide +kernel
theorem dX1_count_22 : decode cX1_count 22 = .ok (.getfield 10, 3) := by decide +kernel
theorem dX1_count_25 : decode cX1_count 25 = .ok (.getfield 72, 3) := by decide +kernel
theorem dX1_count_28 : decode cX1_count 28 = .ok (.goto 25, 3) := by decide +kernel
theorem dX1_count_31 : decode cX1_count 31 = .ok (.iload_n 1, 1) := by decide +kernel
theorem dX1_count_32 : decode cX1_count 32 = .ok (.iconst 1, 1) := by decide +kernel
theorem dX1_count_33 : decode cX1_count 33 = .ok (.if_icmp .ne 13, 3) := by decide +kernel
theorem dX1_count_36 : decode cX1_count 36 = .ok (.aload_n 0, 1) := by decide +kernel
theorem dX1_count_37 : decode cX1_count 37 = .ok (.getfield 21, 3) := by decide +kernel
theorem dX1_count_40 : decode cX1_count 40 = .ok (.getfield 117, 3) := by decide +kernel
theorem dX1_count_43 : decode cX1_count 43 = .ok (.goto 10, 3) := by decide +kernel
theorem dX1_count_46 : decode cX1_count 46 = .ok (.aload_n 0, 1) := by decide +kernel
theorem dX1_count_47 : decode cX1_count 47 = .ok (.getfield 10, 3) := by decide +kernel
theorem dX1_count_50 : decode cX1_count 50 = .ok (.getfield 87, 3) := by decide +kernel
theorem dX1_count_53 : decode cX1_count 53 = .ok (.ireturn, 1) := by decide +kernel
end
section
set_option maxRecDepth 100000
theorem dX2_init_0 : decode cX2_init 0 = .ok (.aload_n 0, 1) := by decide +kernel
theorem dX2_init_1 : decode cX2_init 1 = .ok (.invokespecial 1, 3) := by decide +kernel
theorem dX2_init_4 : decode cX2_init 4 = .ok (.aload_n 0, 1) := by decide +kernel
theorem dX2_init_5 : decode cX2_init 5 = .ok (.sipush 2000, 3) := by decide +kernel
theorem dX2_init_8 : decode cX2_init 8 = .ok (.newarray .int, 2) := by decide +kernel
theorem dX2_init_10 : decode cX2_init 10 = .ok (.putfield 7, 3) := by decide +kernel
theorem dX2_init_13 : decode cX2_init 13 = .ok (.aload_n 0, 1) := by decide +kernel
theorem dX2_init_14 : decode cX2_init 14 = .ok (.sipush 2000, 3) := by decide +kernel
theorem dX2_init_17 : decode cX2_init 17 = .ok (.newarray .long, 2) := by decide +kernel
theorem dX2_init_19 : decode cX2_init 19 = .ok (.putfield 13, 3) := by decide +kernel
theorem dX2_init_22 : decode cX2_init 22 = .ok (.aload_n 0, 1) := by decide +kernel
theorem dX2_init_23 : decode cX2_init 23 = .ok (.sipush 2000, 3) := by decide +kernel
theorem dX2_init_26 : decode cX2_init 26 = .ok (.newarray .short, 2) := by decide +kernel
theorem dX2_init_28 : decode cX2_init 28 = .ok (.putfield 17, 3) := by decide +kernel
theorem dX2_init_31 : decode cX2_init 31 = .ok (.aload_n 0, 1) := by decide +kernel
theorem dX2_init_32 : decode cX2_init 32 = .ok (.sipush 2000, 3) := by decide +kernel
theorem dX2_init_35 : decode cX2_init 35 = .ok (.newarray .int, 2) := by decide +kernel
theorem dX2_init_37 : decode cX2_init 37 = .ok (.putfield 21, 3) := by decide +kernel
theorem dX2_init_40 : decode cX2_init 40 = .ok (.aload_n 0, 1) := by decide +kernel
theorem dX2_init_41 : decode cX2_init 41 = .ok (.sipush 2000, 3) := by decide +kernel
theorem dX2_init_44 : decode cX2_init 44 = .ok (.newarray .short, 2) := by decide +kernel
theorem dX2_init_46 : decode cX2_init 46 = .ok (.putfield 24, 3) := by decide +kernel
theorem dX2_init_49 : decode cX2_init 49 = .ok (.aload_n 0, 1) := by decide +kernel
theorem dX2_init_50 : decode cX2_init 50 = .ok (.sipush 2000, 3) := by decide +kernel
theorem dX2_init_53 : decode cX2_init 53 = .ok (.newarray .boolean, 2) := by decide +kernel
theorem dX2_init_55 : decode cX2_init 55 = .ok (.putfield 27, 3) := by decide +kernel
theorem dX2_init_58 : decode cX2_init 58 = .ok (.return_, 1) := by decide +kernel
theorem dX2_move_0 : decode cX2_move 0 = .ok (.aload_n 0, 1) := by decide +kernel
theorem dX2_move_1 : decode cX2_move 1 = .ok (.getfield 7, 3) := by decide +kernel
theorem dX2_move_4 : decode cX2_move 4 = .ok (.iload_n 2, 1) := by decide +kernel
theorem dX2_move_5 : decode cX2_move 5 = .ok (.aload_n 0, 1) := by decide +kernel
theorem dX2_move_6 : decode cX2_move 6 = .ok (.getfield 7, 3) := by decide +kernel
theorem dX2_move_9 : decode cX2_move 9 = .ok (.iload_n 1, 1) := by decide +kernel
theorem dX2_move_10 : decode cX2_move 10 = .ok (.iaload, 1) := by decide +kernel
theorem dX2_move_11 : decode cX2_move 11 = .ok (.iastore, 1) := by decide +kernel
theorem dX2_move_12 : decode cX2_move 12 = .ok (.aload_n 0, 1) := by decide +kernel
theorem dX2_move_13 : decode cX2_move 13 = .ok (.getfield 13, 3) := by decide +kernel
theorem dX2_move_16 : decode cX2_move 16 = .ok (.iload_n 2, 1) := by decide +kernel
theorem dX2_move_17 : decode cX2_move 17 = .ok (.aload_n 0, 1) := by decide +kernel
theorem dX2_move_18 : decode cX2_move 18 = .ok (.getfield 13, 3) := by decide +kernel
theorem dX2_move_21 : decode cX2_move 21 = .ok (.iload_n 1, 1) := by decide +kernel
theorem dX2_move_22 : decode cX2_move 22 = .ok (.laload, 1) := by decide +kernel
theorem dX2_move_23 : decode cX2_move 23 = .ok (.lastore, 1) := by decide +kernel
theorem dX2_move_24 : decode cX2_move 24 = .ok (.aload_n 0, 1) := by decide +kernel
theorem dX2_move_25 : decode cX2_move 25 = .ok (.getfield 17, 3) := by decide +kernel
theorem dX2_move_28 : decode cX2_move 28 = .ok (.iload_n 2, 1) := by decide +kernel
theorem dX2_move_29 : decode cX2_move 29 = .ok (.aload_n 0, 1) := by decide +kernel
theorem dX2_move_30 : decode cX2_move 30 = .ok (.getfield 17, 3) := by decide +kernel
theorem dX2_move_33 : decode cX2_move 33 = .ok (.iload_n 1, 1) := by decide +kernel
theorem dX2_move_34 : decode cX2_move 34 = .ok (.saload, 1) := by decide +kernel
theorem dX2_move_35 : decode cX2_move 35 = .ok (.sastore, 1) := by decide +kernel
theorem dX2_move_36 : decode cX2_move 36 = .ok (.aload_n 0, 1) := by decide +kernel
theorem dX2_move_37 : decode cX2_move 37 = .ok (.getfield 21, 3) := by decide +kernel
theorem dX2_move_40 : decode cX2_move 40 = .ok (.iload_n 2, 1) := by decide +kernel
theorem dX2_move_41 : decode cX2_move 41 = .ok (.aload_n 0, 1) := by decide +kernel
theorem dX2_move_42 : decode cX2_move 42 = .ok (.getfield 21, 3) := by decide +kernel
theorem dX2_move_45 : decode cX2_move 45 = .ok (.iload_n 1, 1) := by decide +kernel
theorem dX2_move_46 : decode cX2_move 46 = .ok (.iaload, 1) := by decide +kernel
theorem dX2_move_47 : decode cX2_move 47 = .ok (.iastore, 1) := by decide +kernel
theorem dX2_move_48 : decode cX2_move 48 = .ok (.aload_n 0, 1) := by decide +kernel
theorem dX2_move_49 : decode cX2_move 49 = .ok (.getfield 24, 3) := by decide +kernel
theorem dX2_move_52 : decode cX2_move 52 = .ok (.iload_n 2, 1) := by decide +kernel
theorem dX2_move_53 : decode cX2_move 53 = .ok (.aload_n 0, 1) := by decide +kernel
theorem dX2_move_54 : decode cX2_move 54 = .ok (.getfield 24, 3) := by decide +kernel
theorem dX2_move_57 : decode cX2_move 57 = .ok (.iload_n 1, 1) := by decide +kernel
theorem dX2_move_58 : decode cX2_move 58 = .ok (.saload, 1) := by decide +kernel
theorem dX2_move_59 : decode cX2_move 59 = .ok (.sastore, 1) := by decide +kernel
theorem dX2_move_60 : decode cX2_move 60 = .ok (.aload_n 0, 1) := by decide +kernel
theorem dX2_move_61 : decode cX2_move 61 = .ok (.getfield 27, 3) := by decide +kernel
theorem dX2_move_64 : decode cX2_move 64 = .ok (.iload_n 2, 1) := by decide +kernel
theorem dX2_move_65 : decode cX2_move 65 = .ok (.aload_n 0, 1) := by decide +kernel
theorem dX2_move_66 : decode cX2_move 66 = .ok (.getfield 27, 3) := by decide +kernel
theorem dX2_move_69 : decode cX2_move 69 = .ok (.iload_n 1, 1) := by decide +kernel
theorem dX2_move_70 : decode cX2_move 70 = .ok (.baload, 1) := by decide +kernel
theorem dX2_move_71 : decode cX2_move 71 = .ok (.bastore, 1) := by decide +kernel
theorem dX2_move_72 : decode cX2_move 72 = .ok (.return_, 1) := by decide +kernel
theorem dX2_next_0 : decode cX2_next 0 = .ok (.aload_n 0, 1) := by decide +kernel
theorem dX2_next_1 : decode cX2_next 1 = .ok (.getfield 21, 3) := by decide +kernel
theorem dX2_next_4 : decode cX2_next 4 = .ok (.iload_n 1, 1) := by decide +kernel
theorem dX2_next_5 : decode cX2_next 5 = .ok (.iaload, 1) := by decide +kernel
theorem dX2_next_6 : decode cX2_next 6 = .ok (.aload_n 0, 1) := by decide +kernel
theorem dX2_next_7 : decode cX2_next 7 = .ok (.getfield 24, 3) := by decide +kernel
theorem dX2_next_10 : decode cX2_next 10 = .ok (.iload_n 1, 1) := by decide +kernel
theorem dX2_next_11 : decode cX2_next 11 = .ok (.saload, 1) := by decide +kernel
theorem dX2_next_12 : decode cX2_next 12 = .ok (.iadd, 1) := by decide +kernel
theorem dX2_next_13 : decode cX2_next 13 = .ok (.iconst 1, 1) := by decide +kernel
theorem dX2_next_14 : decode cX2_next 14 = .ok (.iadd, 1) := by decide +kernel
theorem dX2_next_15 : decode cX2_next 15 = .ok (.ldc 38, 2) := by decide +kernel
theorem dX2_next_17 : decode cX2_next 17 = .ok (.iand, 1) := by decide +kernel
theorem dX2_next_18 : decode cX2_next 18 = .ok (.ireturn, 1) := by decide +kernel
theorem dX2_add_0 : decode cX2_add 0 = .ok (.aload_n 0, 1) := by decide +kernel
theorem dX2_add_1 : decode cX2_add 1 = .ok (.getfield 7, 3) := by decide +kernel
theorem dX2_add_4 : decode cX2_add 4 = .ok (.aload_n 0, 1) := by decide +kernel
theorem dX2_add_5 : decode cX2_add 5 = .ok (.getfield 31, 3) := by decide +kernel
theorem dX2_add_8 : decode cX2_add 8 = .ok (.aload_n 0, 1) := by decide +kernel
theorem dX2_add_9 : decode cX2_add 9 = .ok (.getfield 35, 3) := by decide +kernel
theorem dX2_add_12 : decode cX2_add 12 = .ok (.iastore, 1) := by decide +kernel
theorem dX2_add_13 : decode cX2_add 13 = .ok (.aload_n 0, 1) := by decide +kernel
theorem dX2_add_14 : decode cX2_add 14 = .ok (.getfield 13, 3) := by decide +kernel
theorem dX2_add_17 : decode cX2_add 17 = .ok (.aload_n 0, 1) := by decide +kernel
theorem dX2_add_18 : decode cX2_add 18 = .ok (.getfield 31, 3) := by decide +kernel
theorem dX2_add_21 : decode cX2_add 21 = .ok (.lload_n 1, 1) := by decide +kernel
theorem dX2_add_22 : decode cX2_add 22 = .ok (.lastore, 1) := by decide +kernel
theorem dX2_add_23 : decode cX2_add 23 = .ok (.aload_n 0, 1) := by decide +kernel
theorem dX2_add_24 : decode cX2_add 24 = .ok (.getfield 17, 3) := by decide +kernel
theorem dX2_add_27 : decode cX2_add 27 = .ok (.aload_n 0, 1) := by decide +kernel
theorem dX2_add_28 : decode cX2_add 28 = .ok (.getfield 31, 3) := by decide +kernel
theorem dX2_add_31 : decode cX2_add 31 = .ok (.iload_n 3, 1) := by decide +kernel
theorem dX2_add_32 : decode cX2_add 32 = .ok (.i2s, 1) := by decide +kernel
theorem dX2_add_33 : decode cX2_add 33 = .ok (.sastore, 1) := by decide +kernel
theorem dX2_add_34 : decode cX2_add 34 = .ok (.aload_n 0, 1) := by decide +kernel
theorem dX2_add_35 : decode cX2_add 35 = .ok (.getfield 21, 3) := by decide +kernel
theorem dX2_add_38 : decode cX2_add 38 = .ok (.aload_n 0, 1) := by decide +kernel
theorem dX2_add_39 : decode cX2_add 39 = .ok (.getfield 31, 3) := by decide +kernel
theorem dX2_add_42 : decode cX2_add 42 = .ok (.iload 4, 2) := by decide +kernel
theorem dX2_add_44 : decode cX2_add 44 = .ok (.iastore, 1) := by decide +kernel
theorem dX2_add_45 : decode cX2_add 45 = .ok (.aload_n 0, 1) := by decide +kernel
theorem dX2_add_46 : decode cX2_add 46 = .ok (.getfield 24, 3) := by decide +kernel
theorem dX2_add_49 : decode cX2_add 49 = .ok (.aload_n 0, 1) := by decide +kernel
theorem dX2_add_50 : decode cX2_add 50 = .ok (.getfield 31, 3) := by decide +kernel
theorem dX2_add_53 : decode cX2_add 53 = .ok (.iload 5, 2) := by decide +kernel
theorem dX2_add_55 : decode cX2_add 55 = .ok (.i2s, 1) := by decide +kernel
theorem dX2_add_56 : decode cX2_add 56 = .ok (.sastore, 1) := by decide +kernel
theorem dX2_add_57 : decode cX2_add 57 = .ok (.aload_n 0, 1) := by decide +kernel
theorem dX2_add_58 : decode cX2_add 58 = .ok (.getfield 27, 3) := by decide +kernel
theorem dX2_add_61 : decode cX2_add 61 = .ok (.aload_n 0, 1) := by decide +kernel
theorem dX2_add_62 : decode cX2_add 62 = .ok (.dup, 1) := by decide +kernel
theorem dX2_add_63 : decode cX2_add 63 = .ok (.getfield 31, 3) := by decide +kernel
theorem dX2_add_66 : decode cX2_add 66 = .ok (.dup_x1, 1) := by decide +kernel
theorem dX2_add_67 : decode cX2_add 67 = .ok (.iconst 1, 1) := by decide +kernel
theorem dX2_add_68 : decode cX2_add 68 = .ok (.iadd, 1) := by decide +kernel
theorem dX2_add_69 : decode cX2_add 69 = .ok (.putfield 31, 3) := by decide +kernel
theorem dX2_add_72 : decode cX2_add 72 = .ok (.iconst 0, 1) := by decide +kernel
theorem dX2_add_73 : decode cX2_add 73 = .ok (.bastore, 1) := by decide +kernel
theorem dX2_add_74 : decode cX2_add 74 = .ok (.aload_n 0, 1) := by decide +kernel
theorem dX2_add_75 : decode cX2_add 75 = .ok (.dup, 1) := by decide +kernel
theorem dX2_add_76 : decode cX2_add 76 = .ok (.getfield 35, 3) := by decide +kernel
theorem dX2_add_79 : decode cX2_add 79 = .ok (.iload 5, 2) := by decide +kernel
theorem dX2_add_81 : decode cX2_add 81 = .ok (.iconst 1, 1) := by decide +kernel
theorem dX2_add_82 : decode cX2_add 82 = .ok (.iadd, 1) := by decide +kernel
theorem dX2_add_83 : decode cX2_add 83 = .ok (.iadd, 1) := by decide +kernel
theorem dX2_add_84 : decode cX2_add 84 = .ok (.putfield 35, 3) := by decide +kernel
theorem dX2_add_87 : decode cX2_add 87 = .ok (.return_, 1) := by decide +kernel
theorem dX3_init_0 : decode cX3_init 0 = .ok (.aload_n 0, 1) := by decide +kernel
theorem dX3_init_1 : decode cX3_init 1 = .ok (.invokespecial 3, 3) := by decide +kernel
theorem dX3_init_4 : decode cX3_init 4 = .ok (.aload_n 0, 1) := by decide +kernel
theorem dX3_init_5 : decode cX3_init 5 = .ok (.sipush 4096, 3) := by decide +kernel
theorem dX3_init_8 : decode cX3_init 8 = .ok (.newarray .short, 2) := by decide +kernel
theorem dX3_init_10 : decode cX3_init 10 = .ok (.putfield 9, 3) := by decide +kernel
theorem dX3_init_13 : decode cX3_init 13 = .ok (.aload_n 0, 1) := by decide +kernel
theorem dX3_init_14 : decode cX3_init 14 = .ok (.sipush 2000, 3) := by decide +kernel
theorem dX3_init_17 : decode cX3_init 17 = .ok (.newarray .long, 2) := by decide +kernel
theorem dX3_init_19 : decode cX3_init 19 = .ok (.putfield 15, 3) := by decide +kernel
theorem dX3_init_22 : decode cX3_init 22 = .ok (.aload_n 0, 1) := by decide +kernel
theorem dX3_init_23 : decode cX3_init 23 = .ok (.sipush 10000, 3) := by decide +kernel
theorem dX3_init_26 : decode cX3_init 26 = .ok (.newarray .short, 2) := by decide +kernel
theorem dX3_init_28 : decode cX3_init 28 = .ok (.putfield 19, 3) := by decide +kernel
theorem dX3_init_31 : decode cX3_init 31 = .ok (.aload_n 0, 1) := by decide +kernel
theorem dX3_init_32 : decode cX3_init 32 = .ok (.sipush 2000, 3) := by decide +kernel
theorem dX3_init_35 : decode cX3_init 35 = .ok (.newarray .int, 2) := by decide +kernel
theorem dX3_init_37 : decode cX3_init 37 = .ok (.putfield 22, 3) := by decide +kernel
theorem dX3_init_40 : decode cX3_init 40 = .ok (.aload_n 0, 1) := by decide +kernel
theorem dX3_init_41 : decode cX3_init 41 = .ok (.aload_n 1, 1) := by decide +kernel
theorem dX3_init_42 : decode cX3_init 42 = .ok (.putfield 26, 3) := by decide +kernel
theorem dX3_init_45 : decode cX3_init 45 = .ok (.return_, 1) := by decide +kernel
theorem dX3_rewrite_0 : decode cX3_rewrite 0 = .ok (.aload_n 0, 1) := by decide +kernel
theorem dX3_rewrite_1 : decode cX3_rewrite 1 = .ok (.iconst 0, 1) := by decide +kernel
theorem dX3_rewrite_2 : decode cX3_rewrite 2 = .ok (.putfield 52, 3) := by decide +kernel
theorem dX3_rewrite_5 : decode cX3_rewrite 5 = .ok (.iconst 0, 1) := by decide +kernel
theorem dX3_rewrite_6 : decode cX3_rewrite 6 = .ok (.istore_n 1, 1) := by decide +kernel
theorem dX3_rewrite_7 : decode cX3_rewrite 7 = .ok (.iload_n 1, 1) := by decide +kernel
theorem dX3_rewrite_8 : decode cX3_rewrite 8 = .ok (.sipush 4096, 3) := by decide +kernel
theorem dX3_rewrite_11 : decode cX3_rewrite 11 = .ok (.if_icmp .ge 16, 3) := by decide +kernel
theorem dX3_rewrite_14 : decode cX3_rewrite 14 = .ok (.aload_n 0, 1) := by decide +kernel
theorem dX3_rewrite_15 : decode cX3_rewrite 15 = .ok (.getfield 9, 3) := by decide +kernel
theorem dX3_rewrite_18 : decode cX3_rewrite 18 = .ok (.iload_n 1, 1) := by decide +kernel
theorem dX3_rewrite_19 : decode cX3_rewrite 19 = .ok (.iconst 0, 1) := by decide +kernel
theorem dX3_rewrite_20 : decode cX3_rewrite 20 = .ok (.sastore, 1) := by decide +kernel
theorem dX3_rewrite_21 : decode cX3_rewrite 21 = .ok (.iinc 1 1, 3) := by decide +kernel
theorem dX3_rewrite_24 : decode cX3_rewrite 24 = .ok (.goto (-17), 3) := by decide +kernel
theorem dX3_rewrite_27 : decode cX3_rewrite 27 = .ok (.iconst 0, 1) := by decide +kernel
theorem dX3_rewrite_28 : decode cX3_rewrite 28 = .ok (.istore_n 1, 1) := by decide +kernel
theorem dX3_rewrite_29 : decode cX3_rewrite 29 = .ok (.iload_n 1, 1) := by decide +kernel
theorem dX3_rewrite_30 : decode cX3_rewrite 30 = .ok (.aload_n 0, 1) := by decide +kernel
theorem dX3_rewrite_31 : decode cX3_rewrite 31 = .ok (.getfield 26, 3) := by decide +kernel
theorem dX3_rewrite_34 : decode cX3_rewrite 34 = .ok (.getfield 60, 3) := by decide +kernel
theorem dX3_rewrite_37 : decode cX3_rewrite 37 = .ok (.if_icmp .ge 24, 3) := by decide +kernel
theorem dX3_rewrite_40 : decode cX3_rewrite 40 = .ok (.aload_n 0, 1) := by decide +kernel
theorem dX3_rewrite_41 : decode cX3_rewrite 41 = .ok (.getfield 26, 3) := by decide +kernel
theorem dX3_rewrite_44 : decode cX3_rewrite 44 = .ok (.getfield 56, 3) := by decide +kernel
theorem dX3_rewrite_47 : decode cX3_rewrite 47 = .ok (.iload_n 1, 1) := by decide +kernel
theorem dX3_rewrite_48 : decode cX3_rewrite 48 = .ok (.iconst 0, 1) := by decide +kernel
theorem dX3_rewrite_49 : decode cX3_rewrite 49 = .ok (.bastore, 1) := by decide +kernel
theorem dX3_rewrite_50 : decode cX3_rewrite 50 = .ok (.aload_n 0, 1) := by decide +kernel
theorem dX3_rewrite_51 : decode cX3_rewrite 51 = .ok (.iload_n 1, 1) := by decide +kernel
theorem dX3_rewrite_52 : decode cX3_rewrite 52 = .ok (.invokevirtual 61, 3) := by decide +kernel
theorem dX3_rewrite_55 : decode cX3_rewrite 55 = .ok (.iinc 1 1, 3) := by decide +kernel
theorem dX3_rewrite_58 : decode cX3_rewrite 58 = .ok (.goto (-29), 3) := by decide +kernel
theorem dX3_rewrite_61 : decode cX3_rewrite 61 = .ok (.return_, 1) := by decide +kernel
theorem dX3_write_0 : decode cX3_write 0 = .ok (.aload_n 0, 1) := by decide +kernel
theorem dX3_write_1 : decode cX3_write 1 = .ok (.getfield 26, 3) := by decide +kernel
theorem dX3_write_4 : decode cX3_write 4 = .ok (.getfield 45, 3) := by decide +kernel
theorem dX3_write_7 : decode cX3_write 7 = .ok (.iload_n 1, 1) := by decide +kernel
theorem dX3_write_8 : decode cX3_write 8 = .ok (.laload, 1) := by decide +kernel
theorem dX3_write_9 : decode cX3_write 9 = .ok (.lstore_n 2, 1) := by decide +kernel
theorem dX3_write_10 : decode cX3_write 10 = .ok (.lload_n 2, 1) := by decide +kernel
theorem dX3_write_11 : decode cX3_write 11 = .ok (.ldc2_w 50, 3) := by decide +kernel
theorem dX3_write_14 : decode cX3_write 14 = .ok (.lcmp, 1) := by decide +kernel
theorem dX3_write_15 : decode cX3_write 15 = .ok (.ifCond .ne 4, 3) := by decide +kernel
theorem dX3_write_18 : decode cX3_write 18 = .ok (.return_, 1) := by decide +kernel
theorem dX3_write_19 : decode cX3_write 19 = .ok (.aload_n 0, 1) := by decide +kernel
theorem dX3_write_20 : decode cX3_write 20 = .ok (.lload_n 2, 1) := by decide +kernel
theorem dX3_write_21 : decode cX3_write 21 = .ok (.invokevirtual 36, 3) := by decide +kernel
theorem dX3_write_24 : decode cX3_write 24 = .ok (.istore 4, 2) := by decide +kernel
theorem dX3_write_26 : decode cX3_write 26 = .ok (.aload_n 0, 1) := by decide +kernel
theorem dX3_write_27 : decode cX3_write 27 = .ok (.getfield 9, 3) := by decide +kernel
theorem dX3_write_30 : decode cX3_write 30 = .ok (.iload 4, 2) := by decide +kernel
theorem dX3_write_32 : decode cX3_write 32 = .ok (.saload, 1) := by decide +kernel
theorem dX3_write_33 : decode cX3_write 33 = .ok (.ifCond .ne 42, 3) := by decide +kernel
theorem dX3_write_36 : decode cX3_write 36 = .ok (.aload_n 0, 1) := by decide +kernel
theorem dX3_write_37 : decode cX3_write 37 = .ok (.getfield 15, 3) := by decide +kernel
theorem dX3_write_40 : decode cX3_write 40 = .ok (.aload_n 0, 1) := by decide +kernel
theorem dX3_write_41 : decode cX3_write 41 = .ok (.getfield 52, 3) := by decide +kernel
theorem dX3_write_44 : decode cX3_write 44 = .ok (.lload_n 2, 1) := by decide +kernel
theorem dX3_write_45 : decode cX3_write 45 = .ok (.lastore, 1) := by decide +kernel
theorem dX3_write_46 : decode cX3_write 46 = .ok (.aload_n 0, 1) := by decide +kernel
theorem dX3_write_47 : decode cX3_write 47 = .ok (.getfield 22, 3) := by decide +kernel
theorem dX3_write_50 : decode cX3_write 50 = .ok (.aload_n 0, 1) := by decide +kernel
theorem dX3_write_51 : decode cX3_write 51 = .ok (.getfield 52, 3) := by decide +kernel
theorem dX3_write_54 : decode cX3_write 54 = .ok (.iconst 0, 1) := by decide +kernel
theorem dX3_write_55 : decode cX3_write 55 = .ok (.iastore, 1) := by decide +kernel
theorem dX3_write_56 : decode cX3_write 56 = .ok (.aload_n 0, 1) := by decide +kernel
theorem dX3_write_57 : decode cX3_write 57 = .ok (.getfield 9, 3) := by decide +kernel
theorem dX3_write_60 : decode cX3_write 60 = .ok (.iload 4, 2) := by decide +kernel
theorem dX3_write_62 : decode cX3_write 62 = .ok (.aload_n 0, 1) := by decide +kernel
theorem dX3_write_63 : decode cX3_write 63 = .ok (.dup, 1) := by decide +kernel
theorem dX3_write_64 : decode cX3_write 64 = .ok (.getfield 52, 3) := by decide +kernel
theorem dX3_write_67 : decode cX3_write 67 = .ok (.iconst 1, 1) := by decide +kernel
theorem dX3_write_68 : decode cX3_write 68 = .ok (.iadd, 1) := by decide +kernel
theorem dX3_write_69 : decode cX3_write 69 = .ok (.dup_x1, 1) := by decide +kernel
theorem dX3_write_70 : decode cX3_write 70 = .ok (.putfield 52, 3) := by decide +kernel
theorem dX3_write_73 : decode cX3_write 73 = .ok (.i2s, 1) := by decide +kernel
theorem dX3_write_74 : decode cX3_write 74 = .ok (.sastore, 1) := by decide +kernel
theorem dX3_write_75 : decode cX3_write 75 = .ok (.aload_n 0, 1) := by decide +kernel
theorem dX3_write_76 : decode cX3_write 76 = .ok (.getfield 9, 3) := by decide +kernel
theorem dX3_write_79 : decode cX3_write 79 = .ok (.iload 4, 2) := by decide +kernel
theorem dX3_write_81 : decode cX3_write 81 = .ok (.saload, 1) := by decide +kernel
theorem dX3_write_82 : decode cX3_write 82 = .ok (.iconst 1, 1) := by decide +kernel
theorem dX3_write_83 : decode cX3_write 83 = .ok (.isub, 1) := by decide +kernel
theorem dX3_write_84 : decode cX3_write 84 = .ok (.istore 5, 2) := by decide +kernel
theorem dX3_write_86 : decode cX3_write 86 = .ok (.iconst 5, 1) := by decide +kernel
theorem dX3_write_87 : decode cX3_write 87 = .ok (.iload 5, 2) := by decide +kernel
theorem dX3_write_89 : decode cX3_write 89 = .ok (.imul, 1) := by decide +kernel
theorem dX3_write_90 : decode cX3_write 90 = .ok (.aload_n 0, 1) := by decide +kernel
theorem dX3_write_91 : decode cX3_write 91 = .ok (.getfield 22, 3) := by decide +kernel
theorem dX3_write_94 : decode cX3_write 94 = .ok (.iload 5, 2) := by decide +kernel
theorem dX3_write_96 : decode cX3_write 96 = .ok (.iaload, 1) := by decide +kernel
theorem dX3_write_97 : decode cX3_write 97 = .ok (.iconst 5, 1) := by decide +kernel
theorem dX3_write_98 : decode cX3_write 98 = .ok (.irem, 1) := by decide +kernel
theorem dX3_write_99 : decode cX3_write 99 = .ok (.iadd, 1) := by decide +kernel
theorem dX3_write_100 : decode cX3_write 100 = .ok (.istore 6, 2) := by decide +kernel
theorem dX3_write_102 : decode cX3_write 102 = .ok (.aload_n 0, 1) := by decide +kernel
theorem dX3_write_103 : decode cX3_write 103 = .ok (.getfield 22, 3) := by decide +kernel
theorem dX3_write_106 : decode cX3_write 106 = .ok (.iload 5, 2) := by decide +kernel
theorem dX3_write_108 : decode cX3_write 108 = .ok (.iaload, 1) := by decide +kernel
theorem dX3_write_109 : decode cX3_write 109 = .ok (.iconst 5, 1) := by decide +kernel
theorem dX3_write_110 : decode cX3_write 110 = .ok (.if_icmp .lt 19, 3) := by decide +kernel
theorem dX3_write_113 : decode cX3_write 113 = .ok (.aload_n 0, 1) := by decide +kernel
theorem dX3_write_114 : decode cX3_write 114 = .ok (.getfield 26, 3) := by decide +kernel
theorem dX3_write_117 : decode cX3_write 117 = .ok (.getfield 56, 3) := by decide +kernel
theorem dX3_write_120 : decode cX3_write 120 = .ok (.aload_n 0, 1) := by decide +kernel
theorem dX3_write_121 : decode cX3_write 121 = .ok (.getfield 19, 3) := by decide +kernel
theorem dX3_write_124 : decode cX3_write 124 = .ok (.iload 6, 2) := by decide +kernel
theorem dX3_write_126 : decode cX3_write 126 = .ok (.saload, 1) := by decide +kernel
theorem dX3_write_127 : decode cX3_write 127 = .ok (.iconst 0, 1) := by decide +kernel
theorem dX3_write_128 : decode cX3_write 128 = .ok (.bastore, 1) := by decide +kernel
theorem dX3_write_129 : decode cX3_write 129 = .ok (.aload_n 0, 1) := by decide +kernel
theorem dX3_write_130 : decode cX3_write 130 = .ok (.getfield 19, 3) := by decide +kernel
theorem dX3_write_133 : decode cX3_write 133 = .ok (.iload 6, 2) := by decide +kernel
theorem dX3_write_135 : decode cX3_write 135 = .ok (.iload_n 1, 1) := by decide +kernel
theorem dX3_write_136 : decode cX3_write 136 = .ok (.i2s, 1) := by decide +kernel
theorem dX3_write_137 : decode cX3_write 137 = .ok (.sastore, 1) := by decide +kernel
theorem dX3_write_138 : decode cX3_write 138 = .ok (.aload_n 0, 1) := by decide +kernel
theorem dX3_write_139 : decode cX3_write 139 = .ok (.getfield 26, 3) := by decide +kernel
theorem dX3_write_142 : decode cX3_write 142 = .ok (.getfield 56, 3) := by decide +kernel
theorem dX3_write_145 : decode cX3_write 145 = .ok (.iload_n 1, 1) := by decide +kernel
theorem dX3_write_146 : decode cX3_write 146 = .ok (.iconst 1, 1) := by decide +kernel
theorem dX3_write_147 : decode cX3_write 147 = .ok (.bastore, 1) := by decide +kernel
theorem dX3_write_148 : decode cX3_write 148 = .ok (.aload_n 0, 1) := by decide +kernel
theorem dX3_write_149 : decode cX3_write 149 = .ok (.getfield 22, 3) := by decide +kernel
theorem dX3_write_152 : decode cX3_write 152 = .ok (.iload 5, 2) := by decide +kernel
theorem dX3_write_154 : decode cX3_write 154 = .ok (.dup2, 1) := by decide +kernel
theorem dX3_write_155 : decode cX3_write 155 = .ok (.iaload, 1) := by decide +kernel
theorem dX3_write_156 : decode cX3_write 156 = .ok (.iconst 1, 1) := by decide +kernel
theorem dX3_write_157 : decode cX3_write 157 = .ok (.iadd, 1) := by decide +kernel
theorem dX3_write_158 : decode cX3_write 158 = .ok (.iastore, 1) := by decide +kernel
theorem dX3_write_159 : decode cX3_write 159 = .ok (.return_, 1) := by decide +kernel
theorem dX3_slot_0 : decode cX3_slot 0 = .ok (.lload_n 1, 1) := by decide +kernel
theorem dX3_slot_1 : decode cX3_slot 1 = .ok (.invokestatic 32, 3) := by decide +kernel
theorem dX3_slot_4 : decode cX3_slot 4 = .ok (.istore_n 3, 1) := by decide +kernel
theorem dX3_slot_5 : decode cX3_slot 5 = .ok (.aload_n 0, 1) := by decide +kernel
theorem dX3_slot_6 : decode cX3_slot 6 = .ok (.getfield 9, 3) := by decide +kernel
theorem dX3_slot_9 : decode cX3_slot 9 = .ok (.iload_n 3, 1) := by decide +kernel
theorem dX3_slot_10 : decode cX3_slot 10 = .ok (.saload, 1) := by decide +kernel
theorem dX3_slot_11 : decode cX3_slot 11 = .ok (.ifCond .eq 32, 3) := by decide +kernel
theorem dX3_slot_14 : decode cX3_slot 14 = .ok (.aload_n 0, 1) := by decide +kernel
theorem dX3_slot_15 : decode cX3_slot 15 = .ok (.getfield 15, 3) := by decide +kernel
theorem dX3_slot_18 : decode cX3_slot 18 = .ok (.aload_n 0, 1) := by decide +kernel
theorem dX3_slot_19 : decode cX3_slot 19 = .ok (.getfield 9, 3) := by decide +kernel
theorem dX3_slot_22 : decode cX3_slot 22 = .ok (.iload_n 3, 1) := by decide +kernel
theorem dX3_slot_23 : decode cX3_slot 23 = .ok (.saload, 1) := by decide +kernel
theorem dX3_slot_24 : decode cX3_slot 24 = .ok (.iconst 1, 1) := by decide +kernel
theorem dX3_slot_25 : decode cX3_slot 25 = .ok (.isub, 1) := by decide +kernel
theorem dX3_slot_26 : decode cX3_slot 26 = .ok (.laload, 1) := by decide +kernel
theorem dX3_slot_27 : decode cX3_slot 27 = .ok (.lload_n 1, 1) := by decide +kernel
theorem dX3_slot_28 : decode cX3_slot 28 = .ok (.lcmp, 1) := by decide +kernel
theorem dX3_slot_29 : decode cX3_slot 29 = .ok (.ifCond .eq 14, 3) := by decide +kernel
theorem dX3_slot_32 : decode cX3_slot 32 = .ok (.iload_n 3, 1) := by decide +kernel
theorem dX3_slot_33 : decode cX3_slot 33 = .ok (.iconst 1, 1) := by decide +kernel
theorem dX3_slot_34 : decode cX3_slot 34 = .ok (.iadd, 1) := by decide +kernel
theorem dX3_slot_35 : decode cX3_slot 35 = .ok (.sipush 4095, 3) := by decide +kernel
theorem dX3_slot_38 : decode cX3_slot 38 = .ok (.iand, 1) := by decide +kernel
theorem dX3_slot_39 : decode cX3_slot 39 = .ok (.istore_n 3, 1) := by decide +kernel
theorem dX3_slot_40 : decode cX3_slot 40 = .ok (.goto (-35), 3) := by decide +kernel
theorem dX3_slot_43 : decode cX3_slot 43 = .ok (.iload_n 3, 1) := by decide +kernel
theorem dX3_slot_44 : decode cX3_slot 44 = .ok (.ireturn, 1) := by decide +kernel
theorem dX3_mix_0 : decode cX3_mix 0 = .ok (.lload_n 0, 1) := by decide +kernel
theorem dX3_mix_1 : decode cX3_mix 1 = .ok (.ldc2_w 30, 3) := by decide +kernel
theorem dX3_mix_4 : decode cX3_mix 4 = .ok (.lmul, 1) := by decide +kernel
theorem dX3_mix_5 : decode cX3_mix 5 = .ok (.lstore_n 2, 1) := by decide +kernel
theorem dX3_mix_6 : decode cX3_mix 6 = .ok (.lload_n 2, 1) := by decide +kernel
theorem dX3_mix_7 : decode cX3_mix 7 = .ok (.bipush 40, 2) := by decide +kernel
theorem dX3_mix_9 : decode cX3_mix 9 = .ok (.lushr, 1) := by decide +kernel
theorem dX3_mix_10 : decode cX3_mix 10 = .ok (.l2i, 1) := by decide +kernel
theorem dX3_mix_11 : decode cX3_mix 11 = .ok (.sipush 4095, 3) := by decide +kernel
theorem dX3_mix_14 : decode cX3_mix 14 = .ok (.iand, 1) := by decide +kernel
theorem dX3_mix_15 : decode cX3_mix 15 = .ok (.ireturn, 1) := by decide +kernel
theorem dX3_find_0 : decode cX3_find 0 = .ok (.aload_n 0, 1) := by decide +kernel
theorem dX3_find_1 : decode cX3_find 1 = .ok (.getfield 9, 3) := by decide +kernel
theorem dX3_find_4 : decode cX3_find 4 = .ok (.aload_n 0, 1) := by decide +kernel
theorem dX3_find_5 : decode cX3_find 5 = .ok (.lload_n 1, 1) := by decide +kernel
theorem dX3_find_6 : decode cX3_find 6 = .ok (.invokevirtual 36, 3) := by decide +kernel
theorem dX3_find_9 : decode cX3_find 9 = .ok (.saload, 1) := by decide +kernel
theorem dX3_find_10 : decode cX3_find 10 = .ok (.iconst 1, 1) := by decide +kernel
theorem dX3_find_11 : decode cX3_find 11 = .ok (.isub, 1) := by decide +kernel
theorem dX3_find_12 : decode cX3_find 12 = .ok (.ireturn, 1) := by decide +kernel
theorem dX3_batch_0 : decode cX3_batch 0 = .ok (.aload_n 0, 1) := by decide +kernel
theorem dX3_batch_1 : decode cX3_batch 1 = .ok (.getfield 19, 3) := by decide +kernel
theorem dX3_batch_4 : decode cX3_batch 4 = .ok (.iconst 5, 1) := by decide +kernel
theorem dX3_batch_5 : decode cX3_batch 5 = .ok (.iload_n 1, 1) := by decide +kernel
theorem dX3_batch_6 : decode cX3_batch 6 = .ok (.imul, 1) := by decide +kernel
theorem dX3_batch_7 : decode cX3_batch 7 = .ok (.aload_n 0, 1) := by decide +kernel
theorem dX3_batch_8 : decode cX3_batch 8 = .ok (.getfield 22, 3) := by decide +kernel
theorem dX3_batch_11 : decode cX3_batch 11 = .ok (.iload_n 1, 1) := by decide +kernel
theorem dX3_batch_12 : decode cX3_batch 12 = .ok (.iaload, 1) := by decide +kernel
theorem dX3_batch_13 : decode cX3_batch 13 = .ok (.iconst 1, 1) := by decide +kernel
theorem dX3_batch_14 : decode cX3_batch 14 = .ok (.isub, 1) := by decide +kernel
theorem dX3_batch_15 : decode cX3_batch 15 = .ok (.iload_n 2, 1) := by decide +kernel
theorem dX3_batch_16 : decode cX3_batch 16 = .ok (.isub, 1) := by decide +kernel
theorem dX3_batch_17 : decode cX3_batch 17 = .ok (.iconst 5, 1) := by decide +kernel
theorem dX3_batch_18 : decode cX3_batch 18 = .ok (.irem, 1) := by decide +kernel
theorem dX3_batch_19 : decode cX3_batch 19 = .ok (.iadd, 1) := by decide +kernel
theorem dX3_batch_20 : decode cX3_batch 20 = .ok (.saload, 1) := by decide +kernel
theorem dX3_batch_21 : decode cX3_batch 21 = .ok (.ireturn, 1) := by decide +kernel
theorem dX3_known_0 : decode cX3_known 0 = .ok (.iconst 5, 1) := by decide +kernel
theorem dX3_known_1 : decode cX3_known 1 = .ok (.aload_n 0, 1) := by decide +kernel
theorem dX3_known_2 : decode cX3_known 2 = .ok (.getfield 22, 3) := by decide +kernel
theorem dX3_known_5 : decode cX3_known 5 = .ok (.iload_n 1, 1) := by decide +kernel
theorem dX3_known_6 : decode cX3_known 6 = .ok (.iaload, 1) := by decide +kernel
theorem dX3_known_7 : decode cX3_known 7 = .ok (.invokestatic 39, 3) := by decide +kernel
theorem dX3_known_10 : decode cX3_known 10 = .ok (.ireturn, 1) := by decide +kernel
theorem dX0_offer_0 : decode cX0_offer 0 = .ok (.aload 6, 2) := by decide +kernel
theorem dX0_offer_2 : decode cX0_offer 2 = .ok (.iconst 0, 1) := by decide +kernel
theorem dX0_offer_3 : decode cX0_offer 3 = .ok (.aload_n 0, 1) := by decide +kernel
theorem dX0_offer_4 : decode cX0_offer 4 = .ok (.lload_n 1, 1) := by decide +kernel
theorem dX0_offer_5 : decode cX0_offer 5 = .ok (.iload_n 3, 1) := by decide +kernel
theorem dX0_offer_6 : decode cX0_offer 6 = .ok (.iload 4, 2) := by decide +kernel
theorem dX0_offer_8 : decode cX0_offer 8 = .ok (.iload 5, 2) := by decide +kernel
theorem dX0_offer_10 : decode cX0_offer 10 = .ok (.invokevirtual 7, 3) := by decide +kernel
theorem dX0_offer_13 : decode cX0_offer 13 = .ok (.i2l, 1) := by decide +kernel
theorem dX0_offer_14 : decode cX0_offer 14 = .ok (.lastore, 1) := by decide +kernel
theorem dX0_offer_15 : decode cX0_offer 15 = .ok (.goto 11, 3) := by decide +kernel
theorem dX0_offer_18 : decode cX0_offer 18 = .ok (.astore 7, 2) := by decide +kernel
theorem dX0_offer_20 : decode cX0_offer 20 = .ok (.iconst 1, 1) := by decide +kernel
theorem dX0_offer_21 : decode cX0_offer 21 = .ok (.ireturn, 1) := by decide +kernel
theorem dX0_offer_22 : decode cX0_offer 22 = .ok (.astore 7, 2) := by decide +kernel
theorem dX0_offer_24 : decode cX0_offer 24 = .ok (.iconst 2, 1) := by decide +kernel
theorem dX0_offer_25 : decode cX0_offer 25 = .ok (.ireturn, 1) := by decide +kernel
theorem dX0_offer_26 : decode cX0_offer 26 = .ok (.iconst 0, 1) := by decide +kernel
theorem dX0_offer_27 : decode cX0_offer 27 = .ok (.ireturn, 1) := by decide +kernel
theorem dX0_offers_0 : decode cX0_offers 0 = .ok (.aload 7, 2) := by decide +kernel
theorem dX0_offers_2 : decode cX0_offers 2 = .ok (.iconst 0, 1) := by decide +kernel
theorem dX0_offers_3 : decode cX0_offers 3 = .ok (.aload_n 0, 1) := by decide +kernel
theorem dX0_offers_4 : decode cX0_offers 4 = .ok (.iload_n 1, 1) := by decide +kernel
theorem dX0_offers_5 : decode cX0_offers 5 = .ok (.lload_n 2, 1) := by decide +kernel
theorem dX0_offers_6 : decode cX0_offers 6 = .ok (.iload 4, 2) := by decide +kernel
theorem dX0_offers_8 : decode cX0_offers 8 = .ok (.iload 5, 2) := by decide +kernel
theorem dX0_offers_10 : decode cX0_offers 10 = .ok (.iload 6, 2) := by decide +kernel
theorem dX0_offers_12 : decode cX0_offers 12 = .ok (.invokevirtual 17, 3) := by decide +kernel
theorem dX0_offers_15 : decode cX0_offers 15 = .ok (.i2l, 1) := by decide +kernel
theorem dX0_offers_16 : decode cX0_offers 16 = .ok (.lastore, 1) := by decide +kernel
theorem dX0_offers_17 : decode cX0_offers 17 = .ok (.goto 11, 3) := by decide +kernel
theorem dX0_offers_20 : decode cX0_offers 20 = .ok (.astore 8, 2) := by decide +kernel
theorem dX0_offers_22 : decode cX0_offers 22 = .ok (.iconst 1, 1) := by decide +kernel
theorem dX0_offers_23 : decode cX0_offers 23 = .ok (.ireturn, 1) := by decide +kernel
theorem dX0_offers_24 : decode cX0_offers 24 = .ok (.astore 8, 2) := by decide +kernel
theorem dX0_offers_26 : decode cX0_offers 26 = .ok (.iconst 2, 1) := by decide +kernel
theorem dX0_offers_27 : decode cX0_offers 27 = .ok (.ireturn, 1) := by decide +kernel
theorem dX0_offers_28 : decode cX0_offers 28 = .ok (.iconst 0, 1) := by decide +kernel
theorem dX0_offers_29 : decode cX0_offers 29 = .ok (.ireturn, 1) := by decide +kernel
theorem dX0_drop_0 : decode cX0_drop 0 = .ok (.aload_n 2, 1) := by decide +kernel
theorem dX0_drop_1 : decode cX0_drop 1 = .ok (.iconst 0, 1) := by decide +kernel
theorem dX0_drop_2 : decode cX0_drop 2 = .ok (.aload_n 0, 1) := by decide +kernel
theorem dX0_drop_3 : decode cX0_drop 3 = .ok (.iload_n 1, 1) := by decide +kernel
theorem dX0_drop_4 : decode cX0_drop 4 = .ok (.invokevirtual 21, 3) := by decide +kernel
theorem dX0_drop_7 : decode cX0_drop 7 = .ok (.i2l, 1) := by decide +kernel
theorem dX0_drop_8 : decode cX0_drop 8 = .ok (.lastore, 1) := by decide +kernel
theorem dX0_drop_9 : decode cX0_drop 9 = .ok (.goto 6, 3) := by decide +kernel
theorem dX0_drop_12 : decode cX0_drop 12 = .ok (.astore_n 3, 1) := by decide +kernel
theorem dX0_drop_13 : decode cX0_drop 13 = .ok (.iconst 1, 1) := by decide +kernel
theorem dX0_drop_14 : decode cX0_drop 14 = .ok (.ireturn, 1) := by decide +kernel
theorem dX0_drop_15 : decode cX0_drop 15 = .ok (.iconst 0, 1) := by decide +kernel
theorem dX0_drop_16 : decode cX0_drop 16 = .ok (.ireturn, 1) := by decide +kernel
theorem dX0_known_0 : decode cX0_known 0 = .ok (.aload 4, 2) := by decide +kernel
theorem dX0_known_2 : decode cX0_known 2 = .ok (.iconst 0, 1) := by decide +kernel
theorem dX0_known_3 : decode cX0_known 3 = .ok (.aload_n 0, 1) := by decide +kernel
theorem dX0_known_4 : decode cX0_known 4 = .ok (.lload_n 1, 1) := by decide +kernel
theorem dX0_known_5 : decode cX0_known 5 = .ok (.iload_n 3, 1) := by decide +kernel
theorem dX0_known_6 : decode cX0_known 6 = .ok (.invokevirtual 25, 3) := by decide +kernel
theorem dX0_known_9 : decode cX0_known 9 = .ok (.i2l, 1) := by decide +kernel
theorem dX0_known_10 : decode cX0_known 10 = .ok (.lastore, 1) := by decide +kernel
theorem dX0_known_11 : decode cX0_known 11 = .ok (.goto 7, 3) := by decide +kernel
theorem dX0_known_14 : decode cX0_known 14 = .ok (.astore 5, 2) := by decide +kernel
theorem dX0_known_16 : decode cX0_known 16 = .ok (.iconst 1, 1) := by decide +kernel
theorem dX0_known_17 : decode cX0_known 17 = .ok (.ireturn, 1) := by decide +kernel
theorem dX0_known_18 : decode cX0_known 18 = .ok (.iconst 0, 1) := by decide +kernel
theorem dX0_known_19 : decode cX0_known 19 = .ok (.ireturn, 1) := by decide +kernel
theorem dX0_batch_0 : decode cX0_batch 0 = .ok (.aload_n 3, 1) := by decide +kernel
theorem dX0_batch_1 : decode cX0_batch 1 = .ok (.iconst 0, 1) := by decide +kernel
theorem dX0_batch_2 : decode cX0_batch 2 = .ok (.aload_n 0, 1) := by decide +kernel
theorem dX0_batch_3 : decode cX0_batch 3 = .ok (.iload_n 1, 1) := by decide +kernel
theorem dX0_batch_4 : decode cX0_batch 4 = .ok (.iload_n 2, 1) := by decide +kernel
theorem dX0_batch_5 : decode cX0_batch 5 = .ok (.invokevirtual 29, 3) := by decide +kernel
theorem dX0_batch_8 : decode cX0_batch 8 = .ok (.lastore, 1) := by decide +kernel
theorem dX0_batch_9 : decode cX0_batch 9 = .ok (.goto 7, 3) := by decide +kernel
theorem dX0_batch_12 : decode cX0_batch 12 = .ok (.astore 4, 2) := by decide +kernel
theorem dX0_batch_14 : decode cX0_batch 14 = .ok (.iconst 1, 1) := by decide +kernel
theorem dX0_batch_15 : decode cX0_batch 15 = .ok (.ireturn, 1) := by decide +kernel
theorem dX0_batch_16 : decode cX0_batch 16 = .ok (.iconst 0, 1) := by decide +kernel
theorem dX0_batch_17 : decode cX0_batch 17 = .ok (.ireturn, 1) := by decide +kernel
theorem dX0_count_0 : decode cX0_count 0 = .ok (.aload_n 2, 1) := by decide +kernel
theorem dX0_count_1 : decode cX0_count 1 = .ok (.iconst 0, 1) := by decide +kernel
theorem dX0_count_2 : decode cX0_count 2 = .ok (.aload_n 0, 1) := by decide +kernel
theorem dX0_count_3 : decode cX0_count 3 = .ok (.iload_n 1, 1) := by decide +kernel
theorem dX0_count_4 : decode cX0_count 4 = .ok (.invokevirtual 33, 3) := by decide +kernel
theorem dX0_count_7 : decode cX0_count 7 = .ok (.i2l, 1) := by decide +kernel
theorem dX0_count_8 : decode cX0_count 8 = .ok (.lastore, 1) := by decide +kernel
theorem dX0_count_9 : decode cX0_count 9 = .ok (.goto 6, 3) := by decide +kernel
theorem dX0_count_12 : decode cX0_count 12 = .ok (.astore_n 3, 1) := by decide +kernel
theorem dX0_count_13 : decode cX0_count 13 = .ok (.iconst 1, 1) := by decide +kernel
theorem dX0_count_14 : decode cX0_count 14 = .ok (.ireturn, 1) := by decide +kernel
theorem dX0_count_15 : decode cX0_count 15 = .ok (.iconst 0, 1) := by decide +kernel
theorem dX0_count_16 : decode cX0_count 16 = .ok (.ireturn, 1) := by decide +kernel
theorem dJ0_init_0 : decode cJ0_init 0 = .ok (.aload_n 0, 1) := by decide +kernel
theorem dJ0_init_1 : decode cJ0_init 1 = .ok (.invokespecial 1, 3) := by decide +kernel
theorem dJ0_init_4 : decode cJ0_init 4 = .ok (.aload_n 0, 1) := by decide +kernel
theorem dJ0_init_5 : decode cJ0_init 5 = .ok (.aload_n 0, 1) := by decide +kernel
theorem dJ0_init_6 : decode cJ0_init 6 = .ok (.putfield 7, 3) := by decide +kernel
theorem dJ0_init_9 : decode cJ0_init 9 = .ok (.aload_n 0, 1) := by decide +kernel
theorem dJ0_init_10 : decode cJ0_init 10 = .ok (.getstatic 13, 3) := by decide +kernel
theorem dJ0_init_13 : decode cJ0_init 13 = .ok (.putfield 17, 3) := by decide +kernel
theorem dJ0_init_16 : decode cJ0_init 16 = .ok (.aload_n 0, 1) := by decide +kernel
theorem dJ0_init_17 : decode cJ0_init 17 = .ok (.getstatic 20, 3) := by decide +kernel
theorem dJ0_init_20 : decode cJ0_init 20 = .ok (.putfield 24, 3) := by decide +kernel
theorem dJ0_init_23 : decode cJ0_init 23 = .ok (.aload_n 0, 1) := by decide +kernel
theorem dJ0_init_24 : decode cJ0_init 24 = .ok (.invokevirtual 27, 3) := by decide +kernel
theorem dJ0_init_27 : decode cJ0_init 27 = .ok (.pop, 1) := by decide +kernel
theorem dJ0_init_28 : decode cJ0_init 28 = .ok (.return_, 1) := by decide +kernel
theorem dJ1_init_0 : decode cJ1_init 0 = .ok (.aload_n 0, 1) := by decide +kernel
theorem dJ1_init_1 : decode cJ1_init 1 = .ok (.invokespecial 1, 3) := by decide +kernel
theorem dJ1_init_4 : decode cJ1_init 4 = .ok (.return_, 1) := by decide +kernel
theorem dJ2_init_0 : decode cJ2_init 0 = .ok (.aload_n 0, 1) := by decide +kernel
theorem dJ2_init_1 : decode cJ2_init 1 = .ok (.invokespecial 1, 3) := by decide +kernel
theorem dJ2_init_4 : decode cJ2_init 4 = .ok (.return_, 1) := by decide +kernel
theorem dJ3_init_0 : decode cJ3_init 0 = .ok (.aload_n 0, 1) := by decide +kernel
theorem dJ3_init_1 : decode cJ3_init 1 = .ok (.invokespecial 1, 3) := by decide +kernel
theorem dJ3_init_4 : decode cJ3_init 4 = .ok (.return_, 1) := by decide +kernel
theorem dJ4_min_0 : decode cJ4_min 0 = .ok (.iload_n 0, 1) := by decide +kernel
theorem dJ4_min_1 : decode cJ4_min 1 = .ok (.iload_n 1, 1) := by decide +kernel
theorem dJ4_min_2 : decode cJ4_min 2 = .ok (.if_icmp .gt 7, 3) := by decide +kernel
theorem dJ4_min_5 : decode cJ4_min 5 = .ok (.iload_n 0, 1) := by decide +kernel
theorem dJ4_min_6 : decode cJ4_min 6 = .ok (.goto 4, 3) := by decide +kernel
theorem dJ4_min_9 : decode cJ4_min 9 = .ok (.iload_n 1, 1) := by decide +kernel
theorem dJ4_min_10 : decode cJ4_min 10 = .ok (.ireturn, 1) := by decide +kernel
theorem dJ5_init_0 : decode cJ5_init 0 = .ok (.aload_n 0, 1) := by decide +kernel
theorem dJ5_init_1 : decode cJ5_init 1 = .ok (.invokespecial 1, 3) := by decide +kernel
theorem dJ5_init_4 : decode cJ5_init 4 = .ok (.return_, 1) := by decide +kernel
theorem dJ6_init_0 : decode cJ6_init 0 = .ok (.return_, 1) := by decide +kernel
end
section
set_option maxRecDepth 100000
theorem dX4_init_0 : decode cX4_init 0 = .ok (.aload_n 0, 1) := by decide +kernel
theorem dX4_init_1 : decode cX4_init 1 = .ok (.invokespecial 1, 3) := by decide +kernel
theorem dX4_init_4 : decode cX4_init 4 = .ok (.aload_n 0, 1) := by decide +kernel
theorem dX4_init_5 : decode cX4_init 5 = .ok (.sipush 2000, 3) := by decide +kernel
theorem dX4_init_8 : decode cX4_init 8 = .ok (.newarray .int, 2) := by decide +kernel
theorem dX4_init_10 : decode cX4_init 10 = .ok (.putfield 7, 3) := by decide +kernel
theorem dX4_init_13 : decode cX4_init 13 = .ok (.aload_n 0, 1) := by decide +kernel
theorem dX4_init_14 : decode cX4_init 14 = .ok (.sipush 2000, 3) := by decide +kernel
theorem dX4_init_17 : decode cX4_init 17 = .ok (.newarray .long, 2) := by decide +kernel
theorem dX4_init_19 : decode cX4_init 19 = .ok (.putfield 13, 3) := by decide +kernel
theorem dX4_init_22 : decode cX4_init 22 = .ok (.aload_n 0, 1) := by decide +kernel
theorem dX4_init_23 : decode cX4_init 23 = .ok (.sipush 2000, 3) := by decide +kernel
theorem dX4_init_26 : decode cX4_init 26 = .ok (.newarray .int, 2) := by decide +kernel
theorem dX4_init_28 : decode cX4_init 28 = .ok (.putfield 17, 3) := by decide +kernel
theorem dX4_init_31 : decode cX4_init 31 = .ok (.aload_n 0, 1) := by decide +kernel
theorem dX4_init_32 : decode cX4_init 32 = .ok (.sipush 2000, 3) := by decide +kernel
theorem dX4_init_35 : decode cX4_init 35 = .ok (.newarray .int, 2) := by decide +kernel
theorem dX4_init_37 : decode cX4_init 37 = .ok (.putfield 20, 3) := by decide +kernel
theorem dX4_init_40 : decode cX4_init 40 = .ok (.aload_n 0, 1) := by decide +kernel
theorem dX4_init_41 : decode cX4_init 41 = .ok (.sipush 2000, 3) := by decide +kernel
theorem dX4_init_44 : decode cX4_init 44 = .ok (.newarray .int, 2) := by decide +kernel
theorem dX4_init_46 : decode cX4_init 46 = .ok (.putfield 23, 3) := by decide +kernel
theorem dX4_init_49 : decode cX4_init 49 = .ok (.return_, 1) := by decide +kernel
theorem dX4_thrown_0 : decode cX4_thrown 0 = .ok (.aload_n 0, 1) := by decide +kernel
theorem dX4_thrown_1 : decode cX4_thrown 1 = .ok (.getfield 26, 3) := by decide +kernel
theorem dX4_thrown_4 : decode cX4_thrown 4 = .ok (.ireturn, 1) := by decide +kernel
theorem dX4_offer_0 : decode cX4_offer 0 = .ok (.aload_n 0, 1) := by decide +kernel
theorem dX4_offer_1 : decode cX4_offer 1 = .ok (.lload_n 1, 1) := by decide +kernel
theorem dX4_offer_2 : decode cX4_offer 2 = .ok (.iload_n 3, 1) := by decide +kernel
theorem dX4_offer_3 : decode cX4_offer 3 = .ok (.iload 4, 2) := by decide +kernel
theorem dX4_offer_5 : decode cX4_offer 5 = .ok (.iload 5, 2) := by decide +kernel
theorem dX4_offer_7 : decode cX4_offer 7 = .ok (.invokestatic 48, 3) := by decide +kernel
theorem dX4_offer_10 : decode cX4_offer 10 = .ok (.ifCond .eq 7, 3) := by decide +kernel
theorem dX4_offer_13 : decode cX4_offer 13 = .ok (.iconst 0, 1) := by decide +kernel
theorem dX4_offer_14 : decode cX4_offer 14 = .ok (.goto 4, 3) := by decide +kernel
theorem dX4_offer_17 : decode cX4_offer 17 = .ok (.iconst 1, 1) := by decide +kernel
theorem dX4_offer_18 : decode cX4_offer 18 = .ok (.putfield 26, 3) := by decide +kernel
theorem dX4_offer_21 : decode cX4_offer 21 = .ok (.aload_n 0, 1) := by decide +kernel
theorem dX4_offer_22 : decode cX4_offer 22 = .ok (.getfield 26, 3) := by decide +kernel
theorem dX4_offer_25 : decode cX4_offer 25 = .ok (.ifCond .le 5, 3) := by decide +kernel
theorem dX4_offer_28 : decode cX4_offer 28 = .ok (.iconst 0, 1) := by decide +kernel
theorem dX4_offer_29 : decode cX4_offer 29 = .ok (.ireturn, 1) := by decide +kernel
theorem dX4_offer_30 : decode cX4_offer 30 = .ok (.aload_n 0, 1) := by decide +kernel
theorem dX4_offer_31 : decode cX4_offer 31 = .ok (.lload_n 1, 1) := by decide +kernel
theorem dX4_offer_32 : decode cX4_offer 32 = .ok (.iload_n 3, 1) := by decide +kernel
theorem dX4_offer_33 : decode cX4_offer 33 = .ok (.iload 4, 2) := by decide +kernel
theorem dX4_offer_35 : decode cX4_offer 35 = .ok (.iload 5, 2) := by decide +kernel
theorem dX4_offer_37 : decode cX4_offer 37 = .ok (.invokevirtual 52, 3) := by decide +kernel
theorem dX4_offer_40 : decode cX4_offer 40 = .ok (.istore 6, 2) := by decide +kernel
theorem dX4_offer_42 : decode cX4_offer 42 = .ok (.iload 6, 2) := by decide +kernel
theorem dX4_offer_44 : decode cX4_offer 44 = .ok (.iconst (-1), 1) := by decide +kernel
theorem dX4_offer_45 : decode cX4_offer 45 = .ok (.if_icmp .eq 6, 3) := by decide +kernel
theorem dX4_offer_48 : decode cX4_offer 48 = .ok (.iload 6, 2) := by decide +kernel
theorem dX4_offer_50 : decode cX4_offer 50 = .ok (.ireturn, 1) := by decide +kernel
theorem dX4_offer_51 : decode cX4_offer 51 = .ok (.aload_n 0, 1) := by decide +kernel
theorem dX4_offer_52 : decode cX4_offer 52 = .ok (.aload_n 0, 1) := by decide +kernel
theorem dX4_offer_53 : decode cX4_offer 53 = .ok (.getfield 32, 3) := by decide +kernel
theorem dX4_offer_56 : decode cX4_offer 56 = .ok (.sipush 2000, 3) := by decide +kernel
theorem dX4_offer_59 : decode cX4_offer 59 = .ok (.if_icmp .eq 17, 3) := by decide +kernel
theorem dX4_offer_62 : decode cX4_offer 62 = .ok (.aload_n 0, 1) := by decide +kernel
theorem dX4_offer_63 : decode cX4_offer 63 = .ok (.getfield 45, 3) := by decide +kernel
theorem dX4_offer_66 : decode cX4_offer 66 = .ok (.iload 5, 2) := by decide +kernel
theorem dX4_offer_68 : decode cX4_offer 68 = .ok (.iadd, 1) := by decide +kernel
theorem dX4_offer_69 : decode cX4_offer 69 = .ok (.iconst 1, 1) := by decide +kernel
theorem dX4_offer_70 : decode cX4_offer 70 = .ok (.iadd, 1) := by decide +kernel
theorem dX4_offer_71 : decode cX4_offer 71 = .ok (.ldc 56, 2) := by decide +kernel
theorem dX4_offer_73 : decode cX4_offer 73 = .ok (.if_icmp .le 7, 3) := by decide +kernel
theorem dX4_offer_76 : decode cX4_offer 76 = .ok (.iconst 2, 1) := by decide +kernel
theorem dX4_offer_77 : decode cX4_offer 77 = .ok (.goto 4, 3) := by decide +kernel
theorem dX4_offer_80 : decode cX4_offer 80 = .ok (.iconst 0, 1) := by decide +kernel
theorem dX4_offer_81 : decode cX4_offer 81 = .ok (.putfield 26, 3) := by decide +kernel
theorem dX4_offer_84 : decode cX4_offer 84 = .ok (.aload_n 0, 1) := by decide +kernel
theorem dX4_offer_85 : decode cX4_offer 85 = .ok (.getfield 26, 3) := by decide +kernel
theorem dX4_offer_88 : decode cX4_offer 88 = .ok (.ifCond .le 5, 3) := by decide +kernel
theorem dX4_offer_91 : decode cX4_offer 91 = .ok (.iconst 0, 1) := by decide +kernel
theorem dX4_offer_92 : decode cX4_offer 92 = .ok (.ireturn, 1) := by decide +kernel
theorem dX4_offer_93 : decode cX4_offer 93 = .ok (.aload_n 0, 1) := by decide +kernel
theorem dX4_offer_94 : decode cX4_offer 94 = .ok (.lload_n 1, 1) := by decide +kernel
theorem dX4_offer_95 : decode cX4_offer 95 = .ok (.iload_n 3, 1) := by decide +kernel
theorem dX4_offer_96 : decode cX4_offer 96 = .ok (.iload 4, 2) := by decide +kernel
theorem dX4_offer_98 : decode cX4_offer 98 = .ok (.iload 5, 2) := by decide +kernel
theorem dX4_offer_100 : decode cX4_offer 100 = .ok (.invokevirtual 57, 3) := by decide +kernel
theorem dX4_offer_103 : decode cX4_offer 103 = .ok (.aload_n 0, 1) := by decide +kernel
theorem dX4_offer_104 : decode cX4_offer 104 = .ok (.getfield 7, 3) := by decide +kernel
theorem dX4_offer_107 : decode cX4_offer 107 = .ok (.aload_n 0, 1) := by decide +kernel
theorem dX4_offer_108 : decode cX4_offer 108 = .ok (.getfield 32, 3) := by decide +kernel
theorem dX4_offer_111 : decode cX4_offer 111 = .ok (.iconst 1, 1) := by decide +kernel
theorem dX4_offer_112 : decode cX4_offer 112 = .ok (.isub, 1) := by decide +kernel
theorem dX4_offer_113 : decode cX4_offer 113 = .ok (.iaload, 1) := by decide +kernel
theorem dX4_offer_114 : decode cX4_offer 114 = .ok (.ireturn, 1) := by decide +kernel
theorem dX4_isBatch_0 : decode cX4_isBatch 0 = .ok (.iload 4, 2) := by decide +kernel
theorem dX4_isBatch_2 : decode cX4_isBatch 2 = .ok (.ifCond .lt 19, 3) := by decide +kernel
theorem dX4_isBatch_5 : decode cX4_isBatch 5 = .ok (.iload 4, 2) := by decide +kernel
theorem dX4_isBatch_7 : decode cX4_isBatch 7 = .ok (.sipush 999, 3) := by decide +kernel
theorem dX4_isBatch_10 : decode cX4_isBatch 10 = .ok (.if_icmp .gt 11, 3) := by decide +kernel
theorem dX4_isBatch_13 : decode cX4_isBatch 13 = .ok (.lload_n 0, 1) := by decide +kernel
theorem dX4_isBatch_14 : decode cX4_isBatch 14 = .ok (.ldc2_w 30, 3) := by decide +kernel
theorem dX4_isBatch_17 : decode cX4_isBatch 17 = .ok (.lcmp, 1) := by decide +kernel
theorem dX4_isBatch_18 : decode cX4_isBatch 18 = .ok (.ifCond .ge 5, 3) := by decide +kernel
theorem dX4_isBatch_21 : decode cX4_isBatch 21 = .ok (.iconst 0, 1) := by decide +kernel
theorem dX4_isBatch_22 : decode cX4_isBatch 22 = .ok (.ireturn, 1) := by decide +kernel
theorem dX4_isBatch_23 : decode cX4_isBatch 23 = .ok (.lload_n 0, 1) := by decide +kernel
theorem dX4_isBatch_24 : decode cX4_isBatch 24 = .ok (.ldc2_w 30, 3) := by decide +kernel
theorem dX4_isBatch_27 : decode cX4_isBatch 27 = .ok (.lcmp, 1) := by decide +kernel
theorem dX4_isBatch_28 : decode cX4_isBatch 28 = .ok (.ifCond .ne 21, 3) := by decide +kernel
theorem dX4_isBatch_31 : decode cX4_isBatch 31 = .ok (.iload_n 2, 1) := by decide +kernel
theorem dX4_isBatch_32 : decode cX4_isBatch 32 = .ok (.iconst (-1), 1) := by decide +kernel
theorem dX4_isBatch_33 : decode cX4_isBatch 33 = .ok (.if_icmp .ne 12, 3) := by decide +kernel
theorem dX4_isBatch_36 : decode cX4_isBatch 36 = .ok (.iload_n 3, 1) := by decide +kernel
theorem dX4_isBatch_37 : decode cX4_isBatch 37 = .ok (.iconst (-1), 1) := by decide +kernel
theorem dX4_isBatch_38 : decode cX4_isBatch 38 = .ok (.if_icmp .ne 7, 3) := by decide +kernel
theorem dX4_isBatch_41 : decode cX4_isBatch 41 = .ok (.iconst 1, 1) := by decide +kernel
theorem dX4_isBatch_42 : decode cX4_isBatch 42 = .ok (.goto 27, 3) := by decide +kernel
theorem dX4_isBatch_45 : decode cX4_isBatch 45 = .ok (.iconst 0, 1) := by decide +kernel
theorem dX4_isBatch_46 : decode cX4_isBatch 46 = .ok (.goto 23, 3) := by decide +kernel
theorem dX4_isBatch_49 : decode cX4_isBatch 49 = .ok (.iload_n 2, 1) := by decide +kernel
theorem dX4_isBatch_50 : decode cX4_isBatch 50 = .ok (.ifCond .lt 18, 3) := by decide +kernel
theorem dX4_isBatch_53 : decode cX4_isBatch 53 = .ok (.iload_n 2, 1) := by decide +kernel
theorem dX4_isBatch_54 : decode cX4_isBatch 54 = .ok (.sipush 32767, 3) := by decide +kernel
theorem dX4_isBatch_57 : decode cX4_isBatch 57 = .ok (.if_icmp .gt 11, 3) := by decide +kernel
theorem dX4_isBatch_60 : decode cX4_isBatch 60 = .ok (.iload_n 3, 1) := by decide +kernel
theorem dX4_isBatch_61 : decode cX4_isBatch 61 = .ok (.ifCond .lt 7, 3) := by decide +kernel
theorem dX4_isBatch_64 : decode cX4_isBatch 64 = .ok (.iconst 1, 1) := by decide +kernel
theorem dX4_isBatch_65 : decode cX4_isBatch 65 = .ok (.goto 4, 3) := by decide +kernel
theorem dX4_isBatch_68 : decode cX4_isBatch 68 = .ok (.iconst 0, 1) := by decide +kernel
theorem dX4_isBatch_69 : decode cX4_isBatch 69 = .ok (.ireturn, 1) := by decide +kernel
theorem dX4_judged_0 : decode cX4_judged 0 = .ok (.aload_n 0, 1) := by decide +kernel
theorem dX4_judged_1 : decode cX4_judged 1 = .ok (.lload_n 1, 1) := by decide +kernel
theorem dX4_judged_2 : decode cX4_judged 2 = .ok (.iconst 0, 1) := by decide +kernel
theorem dX4_judged_3 : decode cX4_judged 3 = .ok (.invokevirtual 37, 3) := by decide +kernel
theorem dX4_judged_6 : decode cX4_judged 6 = .ok (.istore 6, 2) := by decide +kernel
theorem dX4_judged_8 : decode cX4_judged 8 = .ok (.iload 6, 2) := by decide +kernel
theorem dX4_judged_10 : decode cX4_judged 10 = .ok (.ifCond .ge 5, 3) := by decide +kernel
theorem dX4_judged_13 : decode cX4_judged 13 = .ok (.iconst (-1), 1) := by decide +kernel
theorem dX4_judged_14 : decode cX4_judged 14 = .ok (.ireturn, 1) := by decide +kernel
theorem dX4_judged_15 : decode cX4_judged 15 = .ok (.iload_n 3, 1) := by decide +kernel
theorem dX4_judged_16 : decode cX4_judged 16 = .ok (.aload_n 0, 1) := by decide +kernel
theorem dX4_judged_17 : decode cX4_judged 17 = .ok (.getfield 17, 3) := by decide +kernel
theorem dX4_judged_20 : decode cX4_judged 20 = .ok (.iload 6, 2) := by decide +kernel
theorem dX4_judged_22 : decode cX4_judged 22 = .ok (.iaload, 1) := by decide +kernel
theorem dX4_judged_23 : decode cX4_judged 23 = .ok (.if_icmp .ge 6, 3) := by decide +kernel
theorem dX4_judged_26 : decode cX4_judged 26 = .ok (.bipush (-6), 2) := by decide +kernel
theorem dX4_judged_28 : decode cX4_judged 28 = .ok (.ireturn, 1) := by decide +kernel
theorem dX4_judged_29 : decode cX4_judged 29 = .ok (.iconst 0, 1) := by decide +kernel
theorem dX4_judged_30 : decode cX4_judged 30 = .ok (.istore 7, 2) := by decide +kernel
theorem dX4_judged_32 : decode cX4_judged 32 = .ok (.iload 7, 2) := by decide +kernel
theorem dX4_judged_34 : decode cX4_judged 34 = .ok (.iconst 5, 1) := by decide +kernel
theorem dX4_judged_35 : decode cX4_judged 35 = .ok (.if_icmp .ge 66, 3) := by decide +kernel
theorem dX4_judged_38 : decode cX4_judged 38 = .ok (.aload_n 0, 1) := by decide +kernel
theorem dX4_judged_39 : decode cX4_judged 39 = .ok (.lload_n 1, 1) := by decide +kernel
theorem dX4_judged_40 : decode cX4_judged 40 = .ok (.iload 7, 2) := by decide +kernel
theorem dX4_judged_42 : decode cX4_judged 42 = .ok (.invokevirtual 37, 3) := by decide +kernel
theorem dX4_judged_45 : decode cX4_judged 45 = .ok (.istore 8, 2) := by decide +kernel
theorem dX4_judged_47 : decode cX4_judged 47 = .ok (.iload 8, 2) := by decide +kernel
theorem dX4_judged_49 : decode cX4_judged 49 = .ok (.ifCond .lt 46, 3) := by decide +kernel
theorem dX4_judged_52 : decode cX4_judged 52 = .ok (.aload_n 0, 1) := by decide +kernel
theorem dX4_judged_53 : decode cX4_judged 53 = .ok (.getfield 17, 3) := by decide +kernel
theorem dX4_judged_56 : decode cX4_judged 56 = .ok (.iload 8, 2) := by decide +kernel
theorem dX4_judged_58 : decode cX4_judged 58 = .ok (.iaload, 1) := by decide +kernel
theorem dX4_judged_59 : decode cX4_judged 59 = .ok (.iload_n 3, 1) := by decide +kernel
theorem dX4_judged_60 : decode cX4_judged 60 = .ok (.if_icmp .ne 35, 3) := by decide +kernel
theorem dX4_judged_63 : decode cX4_judged 63 = .ok (.aload_n 0, 1) := by decide +kernel
theorem dX4_judged_64 : decode cX4_judged 64 = .ok (.getfield 20, 3) := by decide +kernel
theorem dX4_judged_67 : decode cX4_judged 67 = .ok (.iload 8, 2) := by decide +kernel
theorem dX4_judged_69 : decode cX4_judged 69 = .ok (.iaload, 1) := by decide +kernel
theorem dX4_judged_70 : decode cX4_judged 70 = .ok (.iload 4, 2) := by decide +kernel
theorem dX4_judged_72 : decode cX4_judged 72 = .ok (.if_icmp .ne 23, 3) := by decide +kernel
theorem dX4_judged_75 : decode cX4_judged 75 = .ok (.aload_n 0, 1) := by decide +kernel
theorem dX4_judged_76 : decode cX4_judged 76 = .ok (.getfield 23, 3) := by decide +kernel
theorem dX4_judged_79 : decode cX4_judged 79 = .ok (.iload 8, 2) := by decide +kernel
theorem dX4_judged_81 : decode cX4_judged 81 = .ok (.iaload, 1) := by decide +kernel
theorem dX4_judged_82 : decode cX4_judged 82 = .ok (.iload 5, 2) := by decide +kernel
theorem dX4_judged_84 : decode cX4_judged 84 = .ok (.if_icmp .ne 11, 3) := by decide +kernel
theorem dX4_judged_87 : decode cX4_judged 87 = .ok (.aload_n 0, 1) := by decide +kernel
theorem dX4_judged_88 : decode cX4_judged 88 = .ok (.getfield 7, 3) := by decide +kernel
theorem dX4_judged_91 : decode cX4_judged 91 = .ok (.iload 8, 2) := by decide +kernel
theorem dX4_judged_93 : decode cX4_judged 93 = .ok (.iaload, 1) := by decide +kernel
theorem dX4_judged_94 : decode cX4_judged 94 = .ok (.ireturn, 1) := by decide +kernel
theorem dX4_judged_95 : decode cX4_judged 95 = .ok (.iinc 7 1, 3) := by decide +kernel
theorem dX4_judged_98 : decode cX4_judged 98 = .ok (.goto (-66), 3) := by decide +kernel
theorem dX4_judged_101 : decode cX4_judged 101 = .ok (.iload_n 3, 1) := by decide +kernel
theorem dX4_judged_102 : decode cX4_judged 102 = .ok (.aload_n 0, 1) := by decide +kernel
theorem dX4_judged_103 : decode cX4_judged 103 = .ok (.getfield 17, 3) := by decide +kernel
theorem dX4_judged_106 : decode cX4_judged 106 = .ok (.iload 6, 2) := by decide +kernel
theorem dX4_judged_108 : decode cX4_judged 108 = .ok (.iaload, 1) := by decide +kernel
theorem dX4_judged_109 : decode cX4_judged 109 = .ok (.if_icmp .le 7, 3) := by decide +kernel
theorem dX4_judged_112 : decode cX4_judged 112 = .ok (.iconst 0, 1) := by decide +kernel
theorem dX4_judged_113 : decode cX4_judged 113 = .ok (.goto 20, 3) := by decide +kernel
theorem dX4_judged_116 : decode cX4_judged 116 = .ok (.aload_n 0, 1) := by decide +kernel
theorem dX4_judged_117 : decode cX4_judged 117 = .ok (.getfield 20, 3) := by decide +kernel
theorem dX4_judged_120 : decode cX4_judged 120 = .ok (.iload 6, 2) := by decide +kernel
theorem dX4_judged_122 : decode cX4_judged 122 = .ok (.iaload, 1) := by decide +kernel
theorem dX4_judged_123 : decode cX4_judged 123 = .ok (.aload_n 0, 1) := by decide +kernel
theorem dX4_judged_124 : decode cX4_judged 124 = .ok (.getfield 23, 3) := by decide +kernel
theorem dX4_judged_127 : decode cX4_judged 127 = .ok (.iload 6, 2) := by decide +kernel
theorem dX4_judged_129 : decode cX4_judged 129 = .ok (.iaload, 1) := by decide +kernel
theorem dX4_judged_130 : decode cX4_judged 130 = .ok (.invokestatic 41, 3) := by decide +kernel
theorem dX4_judged_133 : decode cX4_judged 133 = .ok (.istore 7, 2) := by decide +kernel
theorem dX4_judged_135 : decode cX4_judged 135 = .ok (.iload 4, 2) := by decide +kernel
theorem dX4_judged_137 : decode cX4_judged 137 = .ok (.iload 7, 2) := by decide +kernel
theorem dX4_judged_139 : decode cX4_judged 139 = .ok (.if_icmp .ne 7, 3) := by decide +kernel
theorem dX4_judged_142 : decode cX4_judged 142 = .ok (.iconst (-1), 1) := by decide +kernel
theorem dX4_judged_143 : decode cX4_judged 143 = .ok (.goto 5, 3) := by decide +kernel
theorem dX4_judged_146 : decode cX4_judged 146 = .ok (.bipush (-7), 2) := by decide +kernel
theorem dX4_judged_148 : decode cX4_judged 148 = .ok (.ireturn, 1) := by decide +kernel
theorem dX4_knownOne_0 : decode cX4_knownOne 0 = .ok (.iload_n 3, 1) := by decide +kernel
theorem dX4_knownOne_1 : decode cX4_knownOne 1 = .ok (.istore 4, 2) := by decide +kernel
theorem dX4_knownOne_3 : decode cX4_knownOne 3 = .ok (.aload_n 0, 1) := by decide +kernel
theorem dX4_knownOne_4 : decode cX4_knownOne 4 = .ok (.getfield 32, 3) := by decide +kernel
theorem dX4_knownOne_7 : decode cX4_knownOne 7 = .ok (.iconst 1, 1) := by decide +kernel
theorem dX4_knownOne_8 : decode cX4_knownOne 8 = .ok (.isub, 1) := by decide +kernel
theorem dX4_knownOne_9 : decode cX4_knownOne 9 = .ok (.istore 5, 2) := by decide +kernel
theorem dX4_knownOne_11 : decode cX4_knownOne 11 = .ok (.iload 5, 2) := by decide +kernel
theorem dX4_knownOne_13 : decode cX4_knownOne 13 = .ok (.ifCond .lt 43, 3) := by decide +kernel
theorem dX4_knownOne_16 : decode cX4_knownOne 16 = .ok (.iload_n 3, 1) := by decide +kernel
theorem dX4_knownOne_17 : decode cX4_knownOne 17 = .ok (.iconst 5, 1) := by decide +kernel
theorem dX4_knownOne_18 : decode cX4_knownOne 18 = .ok (.if_icmp .ge 38, 3) := by decide +kernel
theorem dX4_knownOne_21 : decode cX4_knownOne 21 = .ok (.lload_n 1, 1) := by decide +kernel
theorem dX4_knownOne_22 : decode cX4_knownOne 22 = .ok (.lconst 0, 1) := by decide +kernel
theorem dX4_knownOne_23 : decode cX4_knownOne 23 = .ok (.lcmp, 1) := by decide +kernel
theorem dX4_knownOne_24 : decode cX4_knownOne 24 = .ok (.ifCond .lt 32, 3) := by decide +kernel
theorem dX4_knownOne_27 : decode cX4_knownOne 27 = .ok (.aload_n 0, 1) := by decide +kernel
theorem dX4_knownOne_28 : decode cX4_knownOne 28 = .ok (.getfield 13, 3) := by decide +kernel
theorem dX4_knownOne_31 : decode cX4_knownOne 31 = .ok (.iload 5, 2) := by decide +kernel
theorem dX4_knownOne_33 : decode cX4_knownOne 33 = .ok (.laload, 1) := by decide +kernel
theorem dX4_knownOne_34 : decode cX4_knownOne 34 = .ok (.lload_n 1, 1) := by decide +kernel
theorem dX4_knownOne_35 : decode cX4_knownOne 35 = .ok (.lcmp, 1) := by decide +kernel
theorem dX4_knownOne_36 : decode cX4_knownOne 36 = .ok (.ifCond .ne 14, 3) := by decide +kernel
theorem dX4_knownOne_39 : decode cX4_knownOne 39 = .ok (.iload 4, 2) := by decide +kernel
theorem dX4_knownOne_41 : decode cX4_knownOne 41 = .ok (.ifCond .ne 6, 3) := by decide +kernel
theorem dX4_knownOne_44 : decode cX4_knownOne 44 = .ok (.iload 5, 2) := by decide +kernel
theorem dX4_knownOne_46 : decode cX4_knownOne 46 = .ok (.ireturn, 1) := by decide +kernel
theorem dX4_knownOne_47 : decode cX4_knownOne 47 = .ok (.iinc 4 (-1), 3) := by decide +kernel
theorem dX4_knownOne_50 : decode cX4_knownOne 50 = .ok (.iinc 5 (-1), 3) := by decide +kernel
theorem dX4_knownOne_53 : decode cX4_knownOne 53 = .ok (.goto (-42), 3) := by decide +kernel
theorem dX4_knownOne_56 : decode cX4_knownOne 56 = .ok (.iconst (-1), 1) := by decide +kernel
theorem dX4_knownOne_57 : decode cX4_knownOne 57 = .ok (.ireturn, 1) := by decide +kernel
theorem dX4_after_0 : decode cX4_after 0 = .ok (.iload_n 0, 1) := by decide +kernel
theorem dX4_after_1 : decode cX4_after 1 = .ok (.i2l, 1) := by decide +kernel
theorem dX4_after_2 : decode cX4_after 2 = .ok (.iload_n 1, 1) := by decide +kernel
theorem dX4_after_3 : decode cX4_after 3 = .ok (.i2l, 1) := by decide +kernel
theorem dX4_after_4 : decode cX4_after 4 = .ok (.ladd, 1) := by decide +kernel
theorem dX4_after_5 : decode cX4_after 5 = .ok (.lconst 1, 1) := by decide +kernel
theorem dX4_after_6 : decode cX4_after 6 = .ok (.ladd, 1) := by decide +kernel
theorem dX4_after_7 : decode cX4_after 7 = .ok (.lstore_n 2, 1) := by decide +kernel
theorem dX4_after_8 : decode cX4_after 8 = .ok (.lload_n 2, 1) := by decide +kernel
theorem dX4_after_9 : decode cX4_after 9 = .ok (.ldc2_w 35, 3) := by decide +kernel
theorem dX4_after_12 : decode cX4_after 12 = .ok (.lrem, 1) := by decide +kernel
theorem dX4_after_13 : decode cX4_after 13 = .ok (.l2i, 1) := by decide +kernel
theorem dX4_after_14 : decode cX4_after 14 = .ok (.ireturn, 1) := by decide +kernel
theorem dX4_come_0 : decode cX4_come 0 = .ok (.aload_n 0, 1) := by decide +kernel
theorem dX4_come_1 : decode cX4_come 1 = .ok (.getfield 7, 3) := by decide +kernel
theorem dX4_come_4 : decode cX4_come 4 = .ok (.aload_n 0, 1) := by decide +kernel
theorem dX4_come_5 : decode cX4_come 5 = .ok (.getfield 32, 3) := by decide +kernel
theorem dX4_come_8 : decode cX4_come 8 = .ok (.aload_n 0, 1) := by decide +kernel
theorem dX4_come_9 : decode cX4_come 9 = .ok (.getfield 45, 3) := by decide +kernel
theorem dX4_come_12 : decode cX4_come 12 = .ok (.iastore, 1) := by decide +kernel
theorem dX4_come_13 : decode cX4_come 13 = .ok (.aload_n 0, 1) := by decide +kernel
theorem dX4_come_14 : decode cX4_come 14 = .ok (.getfield 13, 3) := by decide +kernel
theorem dX4_come_17 : decode cX4_come 17 = .ok (.aload_n 0, 1) := by decide +kernel
theorem dX4_come_18 : decode cX4_come 18 = .ok (.getfield 32, 3) := by decide +kernel
theorem dX4_come_21 : decode cX4_come 21 = .ok (.lload_n 1, 1) := by decide +kernel
theorem dX4_come_22 : decode cX4_come 22 = .ok (.lastore, 1) := by decide +kernel
theorem dX4_come_23 : decode cX4_come 23 = .ok (.aload_n 0, 1) := by decide +kernel
theorem dX4_come_24 : decode cX4_come 24 = .ok (.getfield 17, 3) := by decide +kernel
theorem dX4_come_27 : decode cX4_come 27 = .ok (.aload_n 0, 1) := by decide +kernel
theorem dX4_come_28 : decode cX4_come 28 = .ok (.getfield 32, 3) := by decide +kernel
theorem dX4_come_31 : decode cX4_come 31 = .ok (.iload_n 3, 1) := by decide +kernel
theorem dX4_come_32 : decode cX4_come 32 = .ok (.iastore, 1) := by decide +kernel
theorem dX4_come_33 : decode cX4_come 33 = .ok (.aload_n 0, 1) := by decide +kernel
theorem dX4_come_34 : decode cX4_come 34 = .ok (.getfield 20, 3) := by decide +kernel
theorem dX4_come_37 : decode cX4_come 37 = .ok (.aload_n 0, 1) := by decide +kernel
theorem dX4_come_38 : decode cX4_come 38 = .ok (.getfield 32, 3) := by decide +kernel
theorem dX4_come_41 : decode cX4_come 41 = .ok (.iload 4, 2) := by decide +kernel
theorem dX4_come_43 : decode cX4_come 43 = .ok (.iastore, 1) := by decide +kernel
theorem dX4_come_44 : decode cX4_come 44 = .ok (.aload_n 0, 1) := by decide +kernel
theorem dX4_come_45 : decode cX4_come 45 = .ok (.getfield 23, 3) := by decide +kernel
theorem dX4_come_48 : decode cX4_come 48 = .ok (.aload_n 0, 1) := by decide +kernel
theorem dX4_come_49 : decode cX4_come 49 = .ok (.getfield 32, 3) := by decide +kernel
theorem dX4_come_52 : decode cX4_come 52 = .ok (.iload 5, 2) := by decide +kernel
theorem dX4_come_54 : decode cX4_come 54 = .ok (.iastore, 1) := by decide +kernel
theorem dX4_come_55 : decode cX4_come 55 = .ok (.aload_n 0, 1) := by decide +kernel
theorem dX4_come_56 : decode cX4_come 56 = .ok (.dup, 1) := by decide +kernel
theorem dX4_come_57 : decode cX4_come 57 = .ok (.getfield 32, 3) := by decide +kernel
theorem dX4_come_60 : decode cX4_come 60 = .ok (.iconst 1, 1) := by decide +kernel
theorem dX4_come_61 : decode cX4_come 61 = .ok (.iadd, 1) := by decide +kernel
theorem dX4_come_62 : decode cX4_come 62 = .ok (.putfield 32, 3) := by decide +kernel
theorem dX4_come_65 : decode cX4_come 65 = .ok (.aload_n 0, 1) := by decide +kernel
theorem dX4_come_66 : decode cX4_come 66 = .ok (.dup, 1) := by decide +kernel
theorem dX4_come_67 : decode cX4_come 67 = .ok (.getfield 45, 3) := by decide +kernel
theorem dX4_come_70 : decode cX4_come 70 = .ok (.iload 5, 2) := by decide +kernel
theorem dX4_come_72 : decode cX4_come 72 = .ok (.iconst 1, 1) := by decide +kernel
theorem dX4_come_73 : decode cX4_come 73 = .ok (.iadd, 1) := by decide +kernel
theorem dX4_come_74 : decode cX4_come 74 = .ok (.iadd, 1) := by decide +kernel
theorem dX4_come_75 : decode cX4_come 75 = .ok (.putfield 45, 3) := by decide +kernel
theorem dX4_come_78 : decode cX4_come 78 = .ok (.return_, 1) := by decide +kernel
theorem dX4_offers_0 : decode cX4_offers 0 = .ok (.aload_n 0, 1) := by decide +kernel
theorem dX4_offers_1 : decode cX4_offers 1 = .ok (.lload_n 2, 1) := by decide +kernel
theorem dX4_offers_2 : decode cX4_offers 2 = .ok (.iload 4, 2) := by decide +kernel
theorem dX4_offers_4 : decode cX4_offers 4 = .ok (.iload 5, 2) := by decide +kernel
theorem dX4_offers_6 : decode cX4_offers 6 = .ok (.iload 6, 2) := by decide +kernel
theorem dX4_offers_8 : decode cX4_offers 8 = .ok (.invokestatic 48, 3) := by decide +kernel
theorem dX4_offers_11 : decode cX4_offers 11 = .ok (.ifCond .eq 15, 3) := by decide +kernel
theorem dX4_offers_14 : decode cX4_offers 14 = .ok (.iload_n 1, 1) := by decide +kernel
theorem dX4_offers_15 : decode cX4_offers 15 = .ok (.iconst 1, 1) := by decide +kernel
theorem dX4_offers_16 : decode cX4_offers 16 = .ok (.if_icmp .lt 10, 3) := by decide +kernel
theorem dX4_offers_19 : decode cX4_offers 19 = .ok (.iload_n 1, 1) := by decide +kernel
theorem dX4_offers_20 : decode cX4_offers 20 = .ok (.sipush 500, 3) := by decide +kernel
theorem dX4_offers_23 : decode cX4_offers 23 = .ok (.if_icmp .le 7, 3) := by decide +kernel
theorem dX4_offers_26 : decode cX4_offers 26 = .ok (.iconst 1, 1) := by decide +kernel
theorem dX4_offers_27 : decode cX4_offers 27 = .ok (.goto 36, 3) := by decide +kernel
theorem dX4_offers_30 : decode cX4_offers 30 = .ok (.aload_n 0, 1) := by decide +kernel
theorem dX4_offers_31 : decode cX4_offers 31 = .ok (.getfield 32, 3) := by decide +kernel
theorem dX4_offers_34 : decode cX4_offers 34 = .ok (.iload_n 1, 1) := by decide +kernel
theorem dX4_offers_35 : decode cX4_offers 35 = .ok (.iadd, 1) := by decide +kernel
theorem dX4_offers_36 : decode cX4_offers 36 = .ok (.sipush 2000, 3) := by decide +kernel
theorem dX4_offers_39 : decode cX4_offers 39 = .ok (.if_icmp .gt 19, 3) := by decide +kernel
theorem dX4_offers_42 : decode cX4_offers 42 = .ok (.aload_n 0, 1) := by decide +kernel
theorem dX4_offers_43 : decode cX4_offers 43 = .ok (.getfield 45, 3) := by decide +kernel
theorem dX4_offers_46 : decode cX4_offers 46 = .ok (.iload_n 1, 1) := by decide +kernel
theorem dX4_offers_47 : decode cX4_offers 47 = .ok (.iload 6, 2) := by decide +kernel
theorem dX4_offers_49 : decode cX4_offers 49 = .ok (.iconst 1, 1) := by decide +kernel
theorem dX4_offers_50 : decode cX4_offers 50 = .ok (.iadd, 1) := by decide +kernel
theorem dX4_offers_51 : decode cX4_offers 51 = .ok (.imul, 1) := by decide +kernel
theorem dX4_offers_52 : decode cX4_offers 52 = .ok (.iadd, 1) := by decide +kernel
theorem dX4_offers_53 : decode cX4_offers 53 = .ok (.ldc 56, 2) := by decide +kernel
theorem dX4_offers_55 : decode cX4_offers 55 = .ok (.if_icmp .le 7, 3) := by decide +kernel
theorem dX4_offers_58 : decode cX4_offers 58 = .ok (.iconst 2, 1) := by decide +kernel
theorem dX4_offers_59 : decode cX4_offers 59 = .ok (.goto 4, 3) := by decide +kernel
theorem dX4_offers_62 : decode cX4_offers 62 = .ok (.iconst 0, 1) := by decide +kernel
theorem dX4_offers_63 : decode cX4_offers 63 = .ok (.putfield 26, 3) := by decide +kernel
theorem dX4_offers_66 : decode cX4_offers 66 = .ok (.aload_n 0, 1) := by decide +kernel
theorem dX4_offers_67 : decode cX4_offers 67 = .ok (.getfield 26, 3) := by decide +kernel
theorem dX4_offers_70 : decode cX4_offers 70 = .ok (.ifCond .le 5, 3) := by decide +kernel
theorem dX4_offers_73 : decode cX4_offers 73 = .ok (.iconst 0, 1) := by decide +kernel
theorem dX4_offers_74 : decode cX4_offers 74 = .ok (.ireturn, 1) := by decide +kernel
theorem dX4_offers_75 : decode cX4_offers 75 = .ok (.aload_n 0, 1) := by decide +kernel
theorem dX4_offers_76 : decode cX4_offers 76 = .ok (.getfield 32, 3) := by decide +kernel
theorem dX4_offers_79 : decode cX4_offers 79 = .ok (.istore 7, 2) := by decide +kernel
theorem dX4_offers_81 : decode cX4_offers 81 = .ok (.iload 5, 2) := by decide +kernel
theorem dX4_offers_83 : decode cX4_offers 83 = .ok (.istore 8, 2) := by decide +kernel
theorem dX4_offers_85 : decode cX4_offers 85 = .ok (.iconst 0, 1) := by decide +kernel
theorem dX4_offers_86 : decode cX4_offers 86 = .ok (.istore 9, 2) := by decide +kernel
theorem dX4_offers_88 : decode cX4_offers 88 = .ok (.iload 9, 2) := by decide +kernel
theorem dX4_offers_90 : decode cX4_offers 90 = .ok (.iload_n 1, 1) := by decide +kernel
theorem dX4_offers_91 : decode cX4_offers 91 = .ok (.if_icmp .ge 54, 3) := by decide +kernel
theorem dX4_offers_94 : decode cX4_offers 94 = .ok (.aload_n 0, 1) := by decide +kernel
theorem dX4_offers_95 : decode cX4_offers 95 = .ok (.lload_n 2, 1) := by decide +kernel
theorem dX4_offers_96 : decode cX4_offers 96 = .ok (.iload 4, 2) := by decide +kernel
theorem dX4_offers_98 : decode cX4_offers 98 = .ok (.iload 8, 2) := by decide +kernel
theorem dX4_offers_100 : decode cX4_offers 100 = .ok (.iload 6, 2) := by decide +kernel
theorem dX4_offers_102 : decode cX4_offers 102 = .ok (.invokevirtual 52, 3) := by decide +kernel
theorem dX4_offers_105 : decode cX4_offers 105 = .ok (.iconst (-1), 1) := by decide +kernel
theorem dX4_offers_106 : decode cX4_offers 106 = .ok (.if_icmp .ne 14, 3) := by decide +kernel
theorem dX4_offers_109 : decode cX4_offers 109 = .ok (.aload_n 0, 1) := by decide +kernel
theorem dX4_offers_110 : decode cX4_offers 110 = .ok (.lload_n 2, 1) := by decide +kernel
theorem dX4_offers_111 : decode cX4_offers 111 = .ok (.iload 4, 2) := by decide +kernel
theorem dX4_offers_113 : decode cX4_offers 113 = .ok (.iload 8, 2) := by decide +kernel
theorem dX4_offers_115 : decode cX4_offers 115 = .ok (.iload 6, 2) := by decide +kernel
theorem dX4_offers_117 : decode cX4_offers 117 = .ok (.invokevirtual 57, 3) := by decide +kernel
theorem dX4_offers_120 : decode cX4_offers 120 = .ok (.lload_n 2, 1) := by decide +kernel
theorem dX4_offers_121 : decode cX4_offers 121 = .ok (.lconst 0, 1) := by decide +kernel
theorem dX4_offers_122 : decode cX4_offers 122 = .ok (.lcmp, 1) := by decide +kernel
theorem dX4_offers_123 : decode cX4_offers 123 = .ok (.ifCond .ge 7, 3) := by decide +kernel
theorem dX4_offers_126 : decode cX4_offers 126 = .ok (.iconst (-1), 1) := by decide +kernel
theorem dX4_offers_127 : decode cX4_offers 127 = .ok (.goto 10, 3) := by decide +kernel
theorem dX4_offers_130 : decode cX4_offers 130 = .ok (.iload 8, 2) := by decide +kernel
theorem dX4_offers_132 : decode cX4_offers 132 = .ok (.iload 6, 2) := by decide +kernel
theorem dX4_offers_134 : decode cX4_offers 134 = .ok (.invokestatic 41, 3) := by decide +kernel
theorem dX4_offers_137 : decode cX4_offers 137 = .ok (.istore 8, 2) := by decide +kernel
theorem dX4_offers_139 : decode cX4_offers 139 = .ok (.iinc 9 1, 3) := by decide +kernel
theorem dX4_offers_142 : decode cX4_offers 142 = .ok (.goto (-54), 3) := by decide +kernel
theorem dX4_offers_145 : decode cX4_offers 145 = .ok (.aload_n 0, 1) := by decide +kernel
theorem dX4_offers_146 : decode cX4_offers 146 = .ok (.getfield 32, 3) := by decide +kernel
theorem dX4_offers_149 : decode cX4_offers 149 = .ok (.iload 7, 2) := by decide +kernel
theorem dX4_offers_151 : decode cX4_offers 151 = .ok (.isub, 1) := by decide +kernel
theorem dX4_offers_152 : decode cX4_offers 152 = .ok (.ireturn, 1) := by decide +kernel
theorem dX4_drop_0 : decode cX4_drop 0 = .ok (.aload_n 0, 1) := by decide +kernel
theorem dX4_drop_1 : decode cX4_drop 1 = .ok (.iload_n 1, 1) := by decide +kernel
theorem dX4_drop_2 : decode cX4_drop 2 = .ok (.ifCond .lt 10, 3) := by decide +kernel
theorem dX4_drop_5 : decode cX4_drop 5 = .ok (.iload_n 1, 1) := by decide +kernel
theorem dX4_drop_6 : decode cX4_drop 6 = .ok (.sipush 2000, 3) := by decide +kernel
theorem dX4_drop_9 : decode cX4_drop 9 = .ok (.if_icmp .le 7, 3) := by decide +kernel
theorem dX4_drop_12 : decode cX4_drop 12 = .ok (.iconst 1, 1) := by decide +kernel
theorem dX4_drop_13 : decode cX4_drop 13 = .ok (.goto 4, 3) := by decide +kernel
theorem dX4_drop_16 : decode cX4_drop 16 = .ok (.iconst 0, 1) := by decide +kernel
theorem dX4_drop_17 : decode cX4_drop 17 = .ok (.putfield 26, 3) := by decide +kernel
theorem dX4_drop_20 : decode cX4_drop 20 = .ok (.aload_n 0, 1) := by decide +kernel
theorem dX4_drop_21 : decode cX4_drop 21 = .ok (.getfield 26, 3) := by decide +kernel
theorem dX4_drop_24 : decode cX4_drop 24 = .ok (.ifCond .le 5, 3) := by decide +kernel
theorem dX4_drop_27 : decode cX4_drop 27 = .ok (.iconst 0, 1) := by decide +kernel
theorem dX4_drop_28 : decode cX4_drop 28 = .ok (.ireturn, 1) := by decide +kernel
theorem dX4_drop_29 : decode cX4_drop 29 = .ok (.iload_n 1, 1) := by decide +kernel
theorem dX4_drop_30 : decode cX4_drop 30 = .ok (.aload_n 0, 1) := by decide +kernel
theorem dX4_drop_31 : decode cX4_drop 31 = .ok (.getfield 32, 3) := by decide +kernel
theorem dX4_drop_34 : decode cX4_drop 34 = .ok (.if_icmp .ge 7, 3) := by decide +kernel
theorem dX4_drop_37 : decode cX4_drop 37 = .ok (.iload_n 1, 1) := by decide +kernel
theorem dX4_drop_38 : decode cX4_drop 38 = .ok (.goto 7, 3) := by decide +kernel
theorem dX4_drop_41 : decode cX4_drop 41 = .ok (.aload_n 0, 1) := by decide +kernel
theorem dX4_drop_42 : decode cX4_drop 42 = .ok (.getfield 32, 3) := by decide +kernel
theorem dX4_drop_45 : decode cX4_drop 45 = .ok (.istore_n 2, 1) := by decide +kernel
theorem dX4_drop_46 : decode cX4_drop 46 = .ok (.iload_n 2, 1) := by decide +kernel
theorem dX4_drop_47 : decode cX4_drop 47 = .ok (.istore_n 3, 1) := by decide +kernel
theorem dX4_drop_48 : decode cX4_drop 48 = .ok (.iload_n 3, 1) := by decide +kernel
theorem dX4_drop_49 : decode cX4_drop 49 = .ok (.aload_n 0, 1) := by decide +kernel
theorem dX4_drop_50 : decode cX4_drop 50 = .ok (.getfield 32, 3) := by decide +kernel
theorem dX4_drop_53 : decode cX4_drop 53 = .ok (.if_icmp .ge 17, 3) := by decide +kernel
theorem dX4_drop_56 : decode cX4_drop 56 = .ok (.aload_n 0, 1) := by decide +kernel
theorem dX4_drop_57 : decode cX4_drop 57 = .ok (.iload_n 3, 1) := by decide +kernel
theorem dX4_drop_58 : decode cX4_drop 58 = .ok (.iload_n 3, 1) := by decide +kernel
theorem dX4_drop_59 : decode cX4_drop 59 = .ok (.iload_n 2, 1) := by decide +kernel
theorem dX4_drop_60 : decode cX4_drop 60 = .ok (.isub, 1) := by decide +kernel
theorem dX4_drop_61 : decode cX4_drop 61 = .ok (.invokevirtual 61, 3) := by decide +kernel
theorem dX4_drop_64 : decode cX4_drop 64 = .ok (.iinc 3 1, 3) := by decide +kernel
theorem dX4_drop_67 : decode cX4_drop 67 = .ok (.goto (-19), 3) := by decide +kernel
theorem dX4_drop_70 : decode cX4_drop 70 = .ok (.aload_n 0, 1) := by decide +kernel
theorem dX4_drop_71 : decode cX4_drop 71 = .ok (.dup, 1) := by decide +kernel
theorem dX4_drop_72 : decode cX4_drop 72 = .ok (.getfield 32, 3) := by decide +kernel
theorem dX4_drop_75 : decode cX4_drop 75 = .ok (.iload_n 2, 1) := by decide +kernel
theorem dX4_drop_76 : decode cX4_drop 76 = .ok (.isub, 1) := by decide +kernel
theorem dX4_drop_77 : decode cX4_drop 77 = .ok (.putfield 32, 3) := by decide +kernel
theorem dX4_drop_80 : decode cX4_drop 80 = .ok (.iload_n 2, 1) := by decide +kernel
theorem dX4_drop_81 : decode cX4_drop 81 = .ok (.ireturn, 1) := by decide +kernel
theorem dX4_copy_0 : decode cX4_copy 0 = .ok (.aload_n 0, 1) := by decide +kernel
theorem dX4_copy_1 : decode cX4_copy 1 = .ok (.getfield 7, 3) := by decide +kernel
theorem dX4_copy_4 : decode cX4_copy 4 = .ok (.iload_n 2, 1) := by decide +kernel
theorem dX4_copy_5 : decode cX4_copy 5 = .ok (.aload_n 0, 1) := by decide +kernel
theorem dX4_copy_6 : decode cX4_copy 6 = .ok (.getfield 7, 3) := by decide +kernel
theorem dX4_copy_9 : decode cX4_copy 9 = .ok (.iload_n 1, 1) := by decide +kernel
theorem dX4_copy_10 : decode cX4_copy 10 = .ok (.iaload, 1) := by decide +kernel
theorem dX4_copy_11 : decode cX4_copy 11 = .ok (.iastore, 1) := by decide +kernel
theorem dX4_copy_12 : decode cX4_copy 12 = .ok (.aload_n 0, 1) := by decide +kernel
theorem dX4_copy_13 : decode cX4_copy 13 = .ok (.getfield 13, 3) := by decide +kernel
theorem dX4_copy_16 : decode cX4_copy 16 = .ok (.iload_n 2, 1) := by decide +kernel
theorem dX4_copy_17 : decode cX4_copy 17 = .ok (.aload_n 0, 1) := by decide +kernel
theorem dX4_copy_18 : decode cX4_copy 18 = .ok (.getfield 13, 3) := by decide +kernel
theorem dX4_copy_21 : decode cX4_copy 21 = .ok (.iload_n 1, 1) := by decide +kernel
theorem dX4_copy_22 : decode cX4_copy 22 = .ok (.laload, 1) := by decide +kernel
theorem dX4_copy_23 : decode cX4_copy 23 = .ok (.lastore, 1) := by decide +kernel
theorem dX4_copy_24 : decode cX4_copy 24 = .ok (.aload_n 0, 1) := by decide +kernel
theorem dX4_copy_25 : decode cX4_copy 25 = .ok (.getfield 17, 3) := by decide +kernel
theorem dX4_copy_28 : decode cX4_copy 28 = .ok (.iload_n 2, 1) := by decide +kernel
theorem dX4_copy_29 : decode cX4_copy 29 = .ok (.aload_n 0, 1) := by decide +kernel
theorem dX4_copy_30 : decode cX4_copy 30 = .ok (.getfield 17, 3) := by decide +kernel
theorem dX4_copy_33 : decode cX4_copy 33 = .ok (.iload_n 1, 1) := by decide +kernel
theorem dX4_copy_34 : decode cX4_copy 34 = .ok (.iaload, 1) := by decide +kernel
theorem dX4_copy_35 : decode cX4_copy 35 = .ok (.iastore, 1) := by decide +kernel
theorem dX4_copy_36 : decode cX4_copy 36 = .ok (.aload_n 0, 1) := by decide +kernel
theorem dX4_copy_37 : decode cX4_copy 37 = .ok (.getfield 20, 3) := by decide +kernel
theorem dX4_copy_40 : decode cX4_copy 40 = .ok (.iload_n 2, 1) := by decide +kernel
theorem dX4_copy_41 : decode cX4_copy 41 = .ok (.aload_n 0, 1) := by decide +kernel
theorem dX4_copy_42 : decode cX4_copy 42 = .ok (.getfield 20, 3) := by decide +kernel
theorem dX4_copy_45 : decode cX4_copy 45 = .ok (.iload_n 1, 1) := by decide +kernel
theorem dX4_copy_46 : decode cX4_copy 46 = .ok (.iaload, 1) := by decide +kernel
theorem dX4_copy_47 : decode cX4_copy 47 = .ok (.iastore, 1) := by decide +kernel
theorem dX4_copy_48 : decode cX4_copy 48 = .ok (.aload_n 0, 1) := by decide +kernel
theorem dX4_copy_49 : decode cX4_copy 49 = .ok (.getfield 23, 3) := by decide +kernel
theorem dX4_copy_52 : decode cX4_copy 52 = .ok (.iload_n 2, 1) := by decide +kernel
theorem dX4_copy_53 : decode cX4_copy 53 = .ok (.aload_n 0, 1) := by decide +kernel
theorem dX4_copy_54 : decode cX4_copy 54 = .ok (.getfield 23, 3) := by decide +kernel
theorem dX4_copy_57 : decode cX4_copy 57 = .ok (.iload_n 1, 1) := by decide +kernel
theorem dX4_copy_58 : decode cX4_copy 58 = .ok (.iaload, 1) := by decide +kernel
theorem dX4_copy_59 : decode cX4_copy 59 = .ok (.iastore, 1) := by decide +kernel
theorem dX4_copy_60 : decode cX4_copy 60 = .ok (.return_, 1) := by decide +kernel
theorem dX4_thin_0 : decode cX4_thin 0 = .ok (.aload_n 0, 1) := by decide +kernel
theorem dX4_thin_1 : decode cX4_thin 1 = .ok (.iconst 0, 1) := by decide +kernel
theorem dX4_thin_2 : decode cX4_thin 2 = .ok (.putfield 26, 3) := by decide +kernel
theorem dX4_thin_5 : decode cX4_thin 5 = .ok (.aload_n 0, 1) := by decide +kernel
theorem dX4_thin_6 : decode cX4_thin 6 = .ok (.getfield 32, 3) := by decide +kernel
theorem dX4_thin_9 : decode cX4_thin 9 = .ok (.istore_n 1, 1) := by decide +kernel
theorem dX4_thin_10 : decode cX4_thin 10 = .ok (.iconst 0, 1) := by decide +kernel
theorem dX4_thin_11 : decode cX4_thin 11 = .ok (.istore_n 2, 1) := by decide +kernel
theorem dX4_thin_12 : decode cX4_thin 12 = .ok (.iconst 0, 1) := by decide +kernel
theorem dX4_thin_13 : decode cX4_thin 13 = .ok (.istore_n 3, 1) := by decide +kernel
theorem dX4_thin_14 : decode cX4_thin 14 = .ok (.iload_n 3, 1) := by decide +kernel
theorem dX4_thin_15 : decode cX4_thin 15 = .ok (.iload_n 1, 1) := by decide +kernel
theorem dX4_thin_16 : decode cX4_thin 16 = .ok (.if_icmp .ge 26, 3) := by decide +kernel
theorem dX4_thin_19 : decode cX4_thin 19 = .ok (.aload_n 0, 1) := by decide +kernel
theorem dX4_thin_20 : decode cX4_thin 20 = .ok (.iload_n 3, 1) := by decide +kernel
theorem dX4_thin_21 : decode cX4_thin 21 = .ok (.invokevirtual 69, 3) := by decide +kernel
theorem dX4_thin_24 : decode cX4_thin 24 = .ok (.ifCond .eq 12, 3) := by decide +kernel
theorem dX4_thin_27 : decode cX4_thin 27 = .ok (.aload_n 0, 1) := by decide +kernel
theorem dX4_thin_28 : decode cX4_thin 28 = .ok (.iload_n 3, 1) := by decide +kernel
theorem dX4_thin_29 : decode cX4_thin 29 = .ok (.iload_n 2, 1) := by decide +kernel
theorem dX4_thin_30 : decode cX4_thin 30 = .ok (.invokevirtual 61, 3) := by decide +kernel
theorem dX4_thin_33 : decode cX4_thin 33 = .ok (.iinc 2 1, 3) := by decide +kernel
theorem dX4_thin_36 : decode cX4_thin 36 = .ok (.iinc 3 1, 3) := by decide +kernel
theorem dX4_thin_39 : decode cX4_thin 39 = .ok (.goto (-25), 3) := by decide +kernel
theorem dX4_thin_42 : decode cX4_thin 42 = .ok (.aload_n 0, 1) := by decide +kernel
theorem dX4_thin_43 : decode cX4_thin 43 = .ok (.iload_n 2, 1) := by decide +kernel
theorem dX4_thin_44 : decode cX4_thin 44 = .ok (.putfield 32, 3) := by decide +kernel
theorem dX4_thin_47 : decode cX4_thin 47 = .ok (.iload_n 1, 1) := by decide +kernel
theorem dX4_thin_48 : decode cX4_thin 48 = .ok (.iload_n 2, 1) := by decide +kernel
theorem dX4_thin_49 : decode cX4_thin 49 = .ok (.isub, 1) := by decide +kernel
theorem dX4_thin_50 : decode cX4_thin 50 = .ok (.ireturn, 1) := by decide +kernel
theorem dX4_isKnown_0 : decode cX4_isKnown 0 = .ok (.aload_n 0, 1) := by decide +kernel
theorem dX4_isKnown_1 : decode cX4_isKnown 1 = .ok (.getfield 13, 3) := by decide +kernel
theorem dX4_isKnown_4 : decode cX4_isKnown 4 = .ok (.iload_n 1, 1) := by decide +kernel
theorem dX4_isKnown_5 : decode cX4_isKnown 5 = .ok (.laload, 1) := by decide +kernel
theorem dX4_isKnown_6 : decode cX4_isKnown 6 = .ok (.lconst 0, 1) := by decide +kernel
theorem dX4_isKnown_7 : decode cX4_isKnown 7 = .ok (.lcmp, 1) := by decide +kernel
theorem dX4_isKnown_8 : decode cX4_isKnown 8 = .ok (.ifCond .lt 16, 3) := by decide +kernel
theorem dX4_isKnown_11 : decode cX4_isKnown 11 = .ok (.aload_n 0, 1) := by decide +kernel
theorem dX4_isKnown_12 : decode cX4_isKnown 12 = .ok (.iload_n 1, 1) := by decide +kernel
theorem dX4_isKnown_13 : decode cX4_isKnown 13 = .ok (.invokevirtual 65, 3) := by decide +kernel
theorem dX4_isKnown_16 : decode cX4_isKnown 16 = .ok (.iconst 5, 1) := by decide +kernel
theorem dX4_isKnown_17 : decode cX4_isKnown 17 = .ok (.if_icmp .ge 7, 3) := by decide +kernel
theorem dX4_isKnown_20 : decode cX4_isKnown 20 = .ok (.iconst 1, 1) := by decide +kernel
theorem dX4_isKnown_21 : decode cX4_isKnown 21 = .ok (.goto 4, 3) := by decide +kernel
theorem dX4_isKnown_24 : decode cX4_isKnown 24 = .ok (.iconst 0, 1) := by decide +kernel
theorem dX4_isKnown_25 : decode cX4_isKnown 25 = .ok (.ireturn, 1) := by decide +kernel
theorem dX4_laterOnes_0 : decode cX4_laterOnes 0 = .ok (.iconst 0, 1) := by decide +kernel
theorem dX4_laterOnes_1 : decode cX4_laterOnes 1 = .ok (.istore_n 2, 1) := by decide +kernel
theorem dX4_laterOnes_2 : decode cX4_laterOnes 2 = .ok (.iload_n 1, 1) := by decide +kernel
theorem dX4_laterOnes_3 : decode cX4_laterOnes 3 = .ok (.iconst 1, 1) := by decide +kernel
theorem dX4_laterOnes_4 : decode cX4_laterOnes 4 = .ok (.iadd, 1) := by decide +kernel
theorem dX4_laterOnes_5 : decode cX4_laterOnes 5 = .ok (.istore_n 3, 1) := by decide +kernel
theorem dX4_laterOnes_6 : decode cX4_laterOnes 6 = .ok (.iload_n 3, 1) := by decide +kernel
theorem dX4_laterOnes_7 : decode cX4_laterOnes 7 = .ok (.aload_n 0, 1) := by decide +kernel
theorem dX4_laterOnes_8 : decode cX4_laterOnes 8 = .ok (.getfield 32, 3) := by decide +kernel
theorem dX4_laterOnes_11 : decode cX4_laterOnes 11 = .ok (.if_icmp .ge 33, 3) := by decide +kernel
theorem dX4_laterOnes_14 : decode cX4_laterOnes 14 = .ok (.iload_n 2, 1) := by decide +kernel
theorem dX4_laterOnes_15 : decode cX4_laterOnes 15 = .ok (.aload_n 0, 1) := by decide +kernel
theorem dX4_laterOnes_16 : decode cX4_laterOnes 16 = .ok (.getfield 13, 3) := by decide +kernel
theorem dX4_laterOnes_19 : decode cX4_laterOnes 19 = .ok (.iload_n 3, 1) := by decide +kernel
theorem dX4_laterOnes_20 : decode cX4_laterOnes 20 = .ok (.laload, 1) := by decide +kernel
theorem dX4_laterOnes_21 : decode cX4_laterOnes 21 = .ok (.aload_n 0, 1) := by decide +kernel
theorem dX4_laterOnes_22 : decode cX4_laterOnes 22 = .ok (.getfield 13, 3) := by decide +kernel
theorem dX4_laterOnes_25 : decode cX4_laterOnes 25 = .ok (.iload_n 1, 1) := by decide +kernel
theorem dX4_laterOnes_26 : decode cX4_laterOnes 26 = .ok (.laload, 1) := by decide +kernel
theorem dX4_laterOnes_27 : decode cX4_laterOnes 27 = .ok (.lcmp, 1) := by decide +kernel
theorem dX4_laterOnes_28 : decode cX4_laterOnes 28 = .ok (.ifCond .ne 7, 3) := by decide +kernel
theorem dX4_laterOnes_31 : decode cX4_laterOnes 31 = .ok (.iconst 1, 1) := by decide +kernel
theorem dX4_laterOnes_32 : decode cX4_laterOnes 32 = .ok (.goto 4, 3) := by decide +kernel
theorem dX4_laterOnes_35 : decode cX4_laterOnes 35 = .ok (.iconst 0, 1) := by decide +kernel
theorem dX4_laterOnes_36 : decode cX4_laterOnes 36 = .ok (.iadd, 1) := by decide +kernel
theorem dX4_laterOnes_37 : decode cX4_laterOnes 37 = .ok (.istore_n 2, 1) := by decide +kernel
theorem dX4_laterOnes_38 : decode cX4_laterOnes 38 = .ok (.iinc 3 1, 3) := by decide +kernel
theorem dX4_laterOnes_41 : decode cX4_laterOnes 41 = .ok (.goto (-35), 3) := by decide +kernel
theorem dX4_laterOnes_44 : decode cX4_laterOnes 44 = .ok (.iload_n 2, 1) := by decide +kernel
theorem dX4_laterOnes_45 : decode cX4_laterOnes 45 = .ok (.ireturn, 1) := by decide +kernel
theorem dX4_known_0 : decode cX4_known 0 = .ok (.aload_n 0, 1) := by decide +kernel
theorem dX4_known_1 : decode cX4_known 1 = .ok (.lload_n 1, 1) := by decide +kernel
theorem dX4_known_2 : decode cX4_known 2 = .ok (.lconst 0, 1) := by decide +kernel
theorem dX4_known_3 : decode cX4_known 3 = .ok (.lcmp, 1) := by decide +kernel
theorem dX4_known_4 : decode cX4_known 4 = .ok (.ifCond .lt 12, 3) := by decide +kernel
theorem dX4_known_7 : decode cX4_known 7 = .ok (.iload_n 3, 1) := by decide +kernel
theorem dX4_known_8 : decode cX4_known 8 = .ok (.ifCond .lt 8, 3) := by decide +kernel
theorem dX4_known_11 : decode cX4_known 11 = .ok (.iload_n 3, 1) := by decide +kernel
theorem dX4_known_12 : decode cX4_known 12 = .ok (.iconst 4, 1) := by decide +kernel
theorem dX4_known_13 : decode cX4_known 13 = .ok (.if_icmp .le 7, 3) := by decide +kernel
theorem dX4_known_16 : decode cX4_known 16 = .ok (.iconst 1, 1) := by decide +kernel
theorem dX4_known_17 : decode cX4_known 17 = .ok (.goto 4, 3) := by decide +kernel
theorem dX4_known_20 : decode cX4_known 20 = .ok (.iconst 0, 1) := by decide +kernel
theorem dX4_known_21 : decode cX4_known 21 = .ok (.putfield 26, 3) := by decide +kernel
theorem dX4_known_24 : decode cX4_known 24 = .ok (.aload_n 0, 1) := by decide +kernel
theorem dX4_known_25 : decode cX4_known 25 = .ok (.getfield 26, 3) := by decide +kernel
theorem dX4_known_28 : decode cX4_known 28 = .ok (.ifCond .le 5, 3) := by decide +kernel
theorem dX4_known_31 : decode cX4_known 31 = .ok (.iconst 0, 1) := by decide +kernel
theorem dX4_known_32 : decode cX4_known 32 = .ok (.ireturn, 1) := by decide +kernel
theorem dX4_known_33 : decode cX4_known 33 = .ok (.iconst 0, 1) := by decide +kernel
theorem dX4_known_34 : decode cX4_known 34 = .ok (.istore 4, 2) := by decide +kernel
theorem dX4_known_36 : decode cX4_known 36 = .ok (.iload 4, 2) := by decide +kernel
theorem dX4_known_38 : decode cX4_known 38 = .ok (.iconst 5, 1) := by decide +kernel
theorem dX4_known_39 : decode cX4_known 39 = .ok (.if_icmp .ge 19, 3) := by decide +kernel
theorem dX4_known_42 : decode cX4_known 42 = .ok (.aload_n 0, 1) := by decide +kernel
theorem dX4_known_43 : decode cX4_known 43 = .ok (.lload_n 1, 1) := by decide +kernel
theorem dX4_known_44 : decode cX4_known 44 = .ok (.iload 4, 2) := by decide +kernel
theorem dX4_known_46 : decode cX4_known 46 = .ok (.invokevirtual 37, 3) := by decide +kernel
theorem dX4_known_49 : decode cX4_known 49 = .ok (.ifCond .lt 9, 3) := by decide +kernel
theorem dX4_known_52 : decode cX4_known 52 = .ok (.iinc 4 1, 3) := by decide +kernel
theorem dX4_known_55 : decode cX4_known 55 = .ok (.goto (-19), 3) := by decide +kernel
theorem dX4_known_58 : decode cX4_known 58 = .ok (.iload_n 3, 1) := by decide +kernel
theorem dX4_known_59 : decode cX4_known 59 = .ok (.ifCond .ne 6, 3) := by decide +kernel
theorem dX4_known_62 : decode cX4_known 62 = .ok (.iload 4, 2) := by decide +kernel
theorem dX4_known_64 : decode cX4_known 64 = .ok (.ireturn, 1) := by decide +kernel
theorem dX4_known_65 : decode cX4_known 65 = .ok (.iload 4, 2) := by decide +kernel
theorem dX4_known_67 : decode cX4_known 67 = .ok (.ifCond .ne 5, 3) := by decide +kernel
theorem dX4_known_70 : decode cX4_known 70 = .ok (.iconst (-1), 1) := by decide +kernel
theorem dX4_known_71 : decode cX4_known 71 = .ok (.ireturn, 1) := by decide +kernel
theorem dX4_known_72 : decode cX4_known 72 = .ok (.aload_n 0, 1) := by decide +kernel
theorem dX4_known_73 : decode cX4_known 73 = .ok (.lload_n 1, 1) := by decide +kernel
theorem dX4_known_74 : decode cX4_known 74 = .ok (.iconst 0, 1) := by decide +kernel
theorem dX4_known_75 : decode cX4_known 75 = .ok (.invokevirtual 37, 3) := by decide +kernel
theorem dX4_known_78 : decode cX4_known 78 = .ok (.istore 5, 2) := by decide +kernel
theorem dX4_known_80 : decode cX4_known 80 = .ok (.iload_n 3, 1) := by decide +kernel
theorem dX4_known_81 : decode cX4_known 81 = .ok (.tableswitch 61 1 3 #[27, 35, 53], 27) := by decide +kernel
theorem dX4_known_108 : decode cX4_known 108 = .ok (.aload_n 0, 1) := by decide +kernel
theorem dX4_known_109 : decode cX4_known 109 = .ok (.getfield 17, 3) := by decide +kernel
theorem dX4_known_112 : decode cX4_known 112 = .ok (.iload 5, 2) := by decide +kernel
theorem dX4_known_114 : decode cX4_known 114 = .ok (.iaload, 1) := by decide +kernel
theorem dX4_known_115 : decode cX4_known 115 = .ok (.ireturn, 1) := by decide +kernel
theorem dX4_known_116 : decode cX4_known 116 = .ok (.aload_n 0, 1) := by decide +kernel
theorem dX4_known_117 : decode cX4_known 117 = .ok (.getfield 20, 3) := by decide +kernel
theorem dX4_known_120 : decode cX4_known 120 = .ok (.iload 5, 2) := by decide +kernel
theorem dX4_known_122 : decode cX4_known 122 = .ok (.iaload, 1) := by decide +kernel
theorem dX4_known_123 : decode cX4_known 123 = .ok (.aload_n 0, 1) := by decide +kernel
theorem dX4_known_124 : decode cX4_known 124 = .ok (.getfield 23, 3) := by decide +kernel
theorem dX4_known_127 : decode cX4_known 127 = .ok (.iload 5, 2) := by decide +kernel
theorem dX4_known_129 : decode cX4_known 129 = .ok (.iaload, 1) := by decide +kernel
theorem dX4_known_130 : decode cX4_known 130 = .ok (.invokestatic 41, 3) := by decide +kernel
theorem dX4_known_133 : decode cX4_known 133 = .ok (.ireturn, 1) := by decide +kernel
theorem dX4_known_134 : decode cX4_known 134 = .ok (.aload_n 0, 1) := by decide +kernel
theorem dX4_known_135 : decode cX4_known 135 = .ok (.getfield 7, 3) := by decide +kernel
theorem dX4_known_138 : decode cX4_known 138 = .ok (.iload 5, 2) := by decide +kernel
theorem dX4_known_140 : decode cX4_known 140 = .ok (.iaload, 1) := by decide +kernel
theorem dX4_known_141 : decode cX4_known 141 = .ok (.ireturn, 1) := by decide +kernel
theorem dX4_known_142 : decode cX4_known 142 = .ok (.aload_n 0, 1) := by decide +kernel
theorem dX4_known_143 : decode cX4_known 143 = .ok (.getfield 7, 3) := by decide +kernel
theorem dX4_known_146 : decode cX4_known 146 = .ok (.aload_n 0, 1) := by decide +kernel
theorem dX4_known_147 : decode cX4_known 147 = .ok (.lload_n 1, 1) := by decide +kernel
theorem dX4_known_148 : decode cX4_known 148 = .ok (.iload 4, 2) := by decide +kernel
theorem dX4_known_150 : decode cX4_known 150 = .ok (.iconst 1, 1) := by decide +kernel
theorem dX4_known_151 : decode cX4_known 151 = .ok (.isub, 1) := by decide +kernel
theorem dX4_known_152 : decode cX4_known 152 = .ok (.invokevirtual 37, 3) := by decide +kernel
theorem dX4_known_155 : decode cX4_known 155 = .ok (.iaload, 1) := by decide +kernel
theorem dX4_known_156 : decode cX4_known 156 = .ok (.ireturn, 1) := by decide +kernel
theorem dX4_batch_0 : decode cX4_batch 0 = .ok (.aload_n 0, 1) := by decide +kernel
theorem dX4_batch_1 : decode cX4_batch 1 = .ok (.iload_n 1, 1) := by decide +kernel
theorem dX4_batch_2 : decode cX4_batch 2 = .ok (.ifCond .lt 20, 3) := by decide +kernel
theorem dX4_batch_5 : decode cX4_batch 5 = .ok (.iload_n 1, 1) := by decide +kernel
theorem dX4_batch_6 : decode cX4_batch 6 = .ok (.aload_n 0, 1) := by decide +kernel
theorem dX4_batch_7 : decode cX4_batch 7 = .ok (.getfield 32, 3) := by decide +kernel
theorem dX4_batch_10 : decode cX4_batch 10 = .ok (.if_icmp .ge 12, 3) := by decide +kernel
theorem dX4_batch_13 : decode cX4_batch 13 = .ok (.iload_n 2, 1) := by decide +kernel
theorem dX4_batch_14 : decode cX4_batch 14 = .ok (.ifCond .lt 8, 3) := by decide +kernel
theorem dX4_batch_17 : decode cX4_batch 17 = .ok (.iload_n 2, 1) := by decide +kernel
theorem dX4_batch_18 : decode cX4_batch 18 = .ok (.iconst 5, 1) := by decide +kernel
theorem dX4_batch_19 : decode cX4_batch 19 = .ok (.if_icmp .le 7, 3) := by decide +kernel
theorem dX4_batch_22 : decode cX4_batch 22 = .ok (.iconst 1, 1) := by decide +kernel
theorem dX4_batch_23 : decode cX4_batch 23 = .ok (.goto 4, 3) := by decide +kernel
theorem dX4_batch_26 : decode cX4_batch 26 = .ok (.iconst 0, 1) := by decide +kernel
theorem dX4_batch_27 : decode cX4_batch 27 = .ok (.putfield 26, 3) := by decide +kernel
theorem dX4_batch_30 : decode cX4_batch 30 = .ok (.aload_n 0, 1) := by decide +kernel
theorem dX4_batch_31 : decode cX4_batch 31 = .ok (.getfield 26, 3) := by decide +kernel
theorem dX4_batch_34 : decode cX4_batch 34 = .ok (.ifCond .le 5, 3) := by decide +kernel
theorem dX4_batch_37 : decode cX4_batch 37 = .ok (.lconst 0, 1) := by decide +kernel
theorem dX4_batch_38 : decode cX4_batch 38 = .ok (.lreturn, 1) := by decide +kernel
theorem dX4_batch_39 : decode cX4_batch 39 = .ok (.iload_n 2, 1) := by decide +kernel
theorem dX4_batch_40 : decode cX4_batch 40 = .ok (.tableswitch 75 0 4 #[36, 44, 51, 59, 67], 36) := by decide +kernel
theorem dX4_batch_76 : decode cX4_batch 76 = .ok (.aload_n 0, 1) := by decide +kernel
theorem dX4_batch_77 : decode cX4_batch 77 = .ok (.getfield 7, 3) := by decide +kernel
theorem dX4_batch_80 : decode cX4_batch 80 = .ok (.iload_n 1, 1) := by decide +kernel
theorem dX4_batch_81 : decode cX4_batch 81 = .ok (.iaload, 1) := by decide +kernel
theorem dX4_batch_82 : decode cX4_batch 82 = .ok (.i2l, 1) := by decide +kernel
theorem dX4_batch_83 : decode cX4_batch 83 = .ok (.lreturn, 1) := by decide +kernel
theorem dX4_batch_84 : decode cX4_batch 84 = .ok (.aload_n 0, 1) := by decide +kernel
theorem dX4_batch_85 : decode cX4_batch 85 = .ok (.getfield 13, 3) := by decide +kernel
theorem dX4_batch_88 : decode cX4_batch 88 = .ok (.iload_n 1, 1) := by decide +kernel
theorem dX4_batch_89 : decode cX4_batch 89 = .ok (.laload, 1) := by decide +kernel
theorem dX4_batch_90 : decode cX4_batch 90 = .ok (.lreturn, 1) := by decide +kernel
theorem dX4_batch_91 : decode cX4_batch 91 = .ok (.aload_n 0, 1) := by decide +kernel
theorem dX4_batch_92 : decode cX4_batch 92 = .ok (.getfield 17, 3) := by decide +kernel
theorem dX4_batch_95 : decode cX4_batch 95 = .ok (.iload_n 1, 1) := by decide +kernel
theorem dX4_batch_96 : decode cX4_batch 96 = .ok (.iaload, 1) := by decide +kernel
theorem dX4_batch_97 : decode cX4_batch 97 = .ok (.i2l, 1) := by decide +kernel
theorem dX4_batch_98 : decode cX4_batch 98 = .ok (.lreturn, 1) := by decide +kernel
theorem dX4_batch_99 : decode cX4_batch 99 = .ok (.aload_n 0, 1) := by decide +kernel
theorem dX4_batch_100 : decode cX4_batch 100 = .ok (.getfield 20, 3) := by decide +kernel
theorem dX4_batch_103 : decode cX4_batch 103 = .ok (.iload_n 1, 1) := by decide +kernel
theorem dX4_batch_104 : decode cX4_batch 104 = .ok (.iaload, 1) := by decide +kernel
theorem dX4_batch_105 : decode cX4_batch 105 = .ok (.i2l, 1) := by decide +kernel
theorem dX4_batch_106 : decode cX4_batch 106 = .ok (.lreturn, 1) := by decide +kernel
theorem dX4_batch_107 : decode cX4_batch 107 = .ok (.aload_n 0, 1) := by decide +kernel
theorem dX4_batch_108 : decode cX4_batch 108 = .ok (.getfield 23, 3) := by decide +kernel
theorem dX4_batch_111 : decode cX4_batch 111 = .ok (.iload_n 1, 1) := by decide +kernel
theorem dX4_batch_112 : decode cX4_batch 112 = .ok (.iaload, 1) := by decide +kernel
theorem dX4_batch_113 : decode cX4_batch 113 = .ok (.i2l, 1) := by decide +kernel
theorem dX4_batch_114 : decode cX4_batch 114 = .ok (.lreturn, 1) := by decide +kernel
theorem dX4_batch_115 : decode cX4_batch 115 = .ok (.aload_n 0, 1) := by decide +kernel
theorem dX4_batch_116 : decode cX4_batch 116 = .ok (.iload_n 1, 1) := by decide +kernel
theorem dX4_batch_117 : decode cX4_batch 117 = .ok (.invokevirtual 69, 3) := by decide +kernel
theorem dX4_batch_120 : decode cX4_batch 120 = .ok (.ifCond .eq 7, 3) := by decide +kernel
theorem dX4_batch_123 : decode cX4_batch 123 = .ok (.lconst 1, 1) := by decide +kernel
theorem dX4_batch_124 : decode cX4_batch 124 = .ok (.goto 4, 3) := by decide +kernel
theorem dX4_batch_127 : decode cX4_batch 127 = .ok (.lconst 0, 1) := by decide +kernel
theorem dX4_batch_128 : decode cX4_batch 128 = .ok (.lreturn, 1) := by decide +kernel
theorem dX4_count_0 : decode cX4_count 0 = .ok (.aload_n 0, 1) := by decide +kernel
theorem dX4_count_1 : decode cX4_count 1 = .ok (.iload_n 1, 1) := by decide +kernel
theorem dX4_count_2 : decode cX4_count 2 = .ok (.ifCond .lt 8, 3) := by decide +kernel
theorem dX4_count_5 : decode cX4_count 5 = .ok (.iload_n 1, 1) := by decide +kernel
theorem dX4_count_6 : decode cX4_count 6 = .ok (.iconst 2, 1) := by decide +kernel
theorem dX4_count_7 : decode cX4_count 7 = .ok (.if_icmp .le 7, 3) := by decide +kernel
theorem dX4_count_10 : decode cX4_count 10 = .ok (.iconst 1, 1) := by decide +kernel
theorem dX4_count_11 : decode cX4_count 11 = .ok (.goto 4, 3) := by decide +kernel
theorem dX4_count_14 : decode cX4_count 14 = .ok (.iconst 0, 1) := by decide +kernel
theorem dX4_count_15 : decode cX4_count 15 = .ok (.putfield 26, 3) := by decide +kernel
theorem dX4_count_18 : decode cX4_count 18 = .ok (.aload_n 0, 1) := by decide +kernel
theorem dX4_count_19 : decode cX4_count 19 = .ok (.getfield 26, 3) := by decide +kernel
theorem dX4_count_22 : decode cX4_count 22 = .ok (.ifCond .le 5, 3) := by decide +kernel
theorem dX4_count_25 : decode cX4_count 25 = .ok (.iconst 0, 1) := by decide +kernel
theorem dX4_count_26 : decode cX4_count 26 = .ok (.ireturn, 1) := by decide +kernel
theorem dX4_count_27 : decode cX4_count 27 = .ok (.iload_n 1, 1) := by decide +kernel
theorem dX4_count_28 : decode cX4_count 28 = .ok (.iconst 1, 1) := by decide +kernel
theorem dX4_count_29 : decode cX4_count 29 = .ok (.if_icmp .eq 19, 3) := by decide +kernel
theorem dX4_count_32 : decode cX4_count 32 = .ok (.iload_n 1, 1) := by decide +kernel
theorem dX4_count_33 : decode cX4_count 33 = .ok (.ifCond .ne 10, 3) := by decide +kernel
theorem dX4_count_36 : decode cX4_count 36 = .ok (.aload_n 0, 1) := by decide +kernel
theorem dX4_count_37 : decode cX4_count 37 = .ok (.getfield 32, 3) := by decide +kernel
theorem dX4_count_40 : decode cX4_count 40 = .ok (.goto 7, 3) := by decide +kernel
theorem dX4_count_43 : decode cX4_count 43 = .ok (.aload_n 0, 1) := by decide +kernel
theorem dX4_count_44 : decode cX4_count 44 = .ok (.getfield 45, 3) := by decide +kernel
theorem dX4_count_47 : decode cX4_count 47 = .ok (.ireturn, 1) := by decide +kernel
theorem dX4_count_48 : decode cX4_count 48 = .ok (.iconst 0, 1) := by decide +kernel
theorem dX4_count_49 : decode cX4_count 49 = .ok (.istore_n 2, 1) := by decide +kernel
theorem dX4_count_50 : decode cX4_count 50 = .ok (.iconst 0, 1) := by decide +kernel
theorem dX4_count_51 : decode cX4_count 51 = .ok (.istore_n 3, 1) := by decide +kernel
theorem dX4_count_52 : decode cX4_count 52 = .ok (.iload_n 3, 1) := by decide +kernel
theorem dX4_count_53 : decode cX4_count 53 = .ok (.aload_n 0, 1) := by decide +kernel
theorem dX4_count_54 : decode cX4_count 54 = .ok (.getfield 32, 3) := by decide +kernel
theorem dX4_count_57 : decode cX4_count 57 = .ok (.if_icmp .ge 36, 3) := by decide +kernel
theorem dX4_count_60 : decode cX4_count 60 = .ok (.iload_n 2, 1) := by decide +kernel
theorem dX4_count_61 : decode cX4_count 61 = .ok (.aload_n 0, 1) := by decide +kernel
theorem dX4_count_62 : decode cX4_count 62 = .ok (.getfield 13, 3) := by decide +kernel
theorem dX4_count_65 : decode cX4_count 65 = .ok (.iload_n 3, 1) := by decide +kernel
theorem dX4_count_66 : decode cX4_count 66 = .ok (.laload, 1) := by decide +kernel
theorem dX4_count_67 : decode cX4_count 67 = .ok (.lconst 0, 1) := by decide +kernel
theorem dX4_count_68 : decode cX4_count 68 = .ok (.lcmp, 1) := by decide +kernel
theorem dX4_count_69 : decode cX4_count 69 = .ok (.ifCond .lt 15, 3) := by decide +kernel
theorem dX4_count_72 : decode cX4_count 72 = .ok (.aload_n 0, 1) := by decide +kernel
theorem dX4_count_73 : decode cX4_count 73 = .ok (.iload_n 3, 1) := by decide +kernel
theorem dX4_count_74 : decode cX4_count 74 = .ok (.invokevirtual 65, 3) := by decide +kernel
theorem dX4_count_77 : decode cX4_count 77 = .ok (.ifCond .ne 7, 3) := by decide +kernel
theorem dX4_count_80 : decode cX4_count 80 = .ok (.iconst 1, 1) := by decide +kernel
theorem dX4_count_81 : decode cX4_count 81 = .ok (.goto 4, 3) := by decide +kernel
theorem dX4_count_84 : decode cX4_count 84 = .ok (.iconst 0, 1) := by decide +kernel
theorem dX4_count_85 : decode cX4_count 85 = .ok (.iadd, 1) := by decide +kernel
theorem dX4_count_86 : decode cX4_count 86 = .ok (.istore_n 2, 1) := by decide +kernel
theorem dX4_count_87 : decode cX4_count 87 = .ok (.iinc 3 1, 3) := by decide +kernel
theorem dX4_count_90 : decode cX4_count 90 = .ok (.goto (-38), 3) := by decide +kernel
theorem dX4_count_93 : decode cX4_count 93 = .ok (.iload_n 2, 1) := by decide +kernel
theorem dX4_count_94 : decode cX4_count 94 = .ok (.ireturn, 1) := by decide +kernel
end
section
set_option maxRecDepth 100000
theorem dL_law_0 : decode cL_law 0 = .ok (.new 8, 3) := by decide +kernel
theorem dL_law_3 : decode cL_law 3 = .ok (.dup, 1) := by decide +kernel
theorem dL_law_4 : decode cL_law 4 = .ok (.invokespecial 36, 3) := by decide +kernel
theorem dL_law_7 : decode cL_law 7 = .ok (.astore_n 1, 1) := by decide +kernel
theorem dL_law_8 : decode cL_law 8 = .ok (.new 37, 3) := by decide +kernel
theorem dL_law_11 : decode cL_law 11 = .ok (.dup, 1) := by decide +kernel
theorem dL_law_12 : decode cL_law 12 = .ok (.invokespecial 39, 3) := by decide +kernel
theorem dL_law_15 : decode cL_law 15 = .ok (.astore_n 2, 1) := by decide +kernel
theorem dL_law_16 : decode cL_law 16 = .ok (.iconst 1, 1) := by decide +kernel
theorem dL_law_17 : decode cL_law 17 = .ok (.newarray .long, 2) := by decide +kernel
theorem dL_law_19 : decode cL_law 19 = .ok (.astore_n 3, 1) := by decide +kernel
theorem dL_law_20 : decode cL_law 20 = .ok (.iconst 0, 1) := by decide +kernel
theorem dL_law_21 : decode cL_law 21 = .ok (.istore 4, 2) := by decide +kernel
theorem dL_law_23 : decode cL_law 23 = .ok (.iload 4, 2) := by decide +kernel
theorem dL_law_25 : decode cL_law 25 = .ok (.aload_n 0, 1) := by decide +kernel
theorem dL_law_26 : decode cL_law 26 = .ok (.arraylength, 1) := by decide +kernel
theorem dL_law_27 : decode cL_law 27 = .ok (.bipush 7, 2) := by decide +kernel
theorem dL_law_29 : decode cL_law 29 = .ok (.isub, 1) := by decide +kernel
theorem dL_law_30 : decode cL_law 30 = .ok (.if_icmp .gt 614, 3) := by decide +kernel
theorem dL_law_33 : decode cL_law 33 = .ok (.aload_n 0, 1) := by decide +kernel
theorem dL_law_34 : decode cL_law 34 = .ok (.iload 4, 2) := by decide +kernel
theorem dL_law_36 : decode cL_law 36 = .ok (.iaload, 1) := by decide +kernel
theorem dL_law_37 : decode cL_law 37 = .ok (.bipush 7, 2) := by decide +kernel
theorem dL_law_39 : decode cL_law 39 = .ok (.iand, 1) := by decide +kernel
theorem dL_law_40 : decode cL_law 40 = .ok (.tableswitch 598 0 6 #[44, 168, 306, 362, 375, 475, 542], 44) := by decide +kernel
theorem dL_law_84 : decode cL_law 84 = .ok (.aload_n 1, 1) := by decide +kernel
theorem dL_law_85 : decode cL_law 85 = .ok (.aload_n 0, 1) := by decide +kernel
theorem dL_law_86 : decode cL_law 86 = .ok (.iload 4, 2) := by decide +kernel
theorem dL_law_88 : decode cL_law 88 = .ok (.iconst 1, 1) := by decide +kernel
theorem dL_law_89 : decode cL_law 89 = .ok (.iadd, 1) := by decide +kernel
theorem dL_law_90 : decode cL_law 90 = .ok (.iaload, 1) := by decide +kernel
theorem dL_law_91 : decode cL_law 91 = .ok (.i2l, 1) := by decide +kernel
theorem dL_law_92 : decode cL_law 92 = .ok (.bipush 32, 2) := by decide +kernel
theorem dL_law_94 : decode cL_law 94 = .ok (.lshl, 1) := by decide +kernel
theorem dL_law_95 : decode cL_law 95 = .ok (.aload_n 0, 1) := by decide +kernel
theorem dL_law_96 : decode cL_law 96 = .ok (.iload 4, 2) := by decide +kernel
theorem dL_law_98 : decode cL_law 98 = .ok (.iconst 2, 1) := by decide +kernel
theorem dL_law_99 : decode cL_law 99 = .ok (.iadd, 1) := by decide +kernel
theorem dL_law_100 : decode cL_law 100 = .ok (.iaload, 1) := by decide +kernel
theorem dL_law_101 : decode cL_law 101 = .ok (.i2l, 1) := by decide +kernel
theorem dL_law_102 : decode cL_law 102 = .ok (.ldc2_w 40, 3) := by decide +kernel
theorem dL_law_105 : decode cL_law 105 = .ok (.land, 1) := by decide +kernel
theorem dL_law_106 : decode cL_law 106 = .ok (.lor, 1) := by decide +kernel
theorem dL_law_107 : decode cL_law 107 = .ok (.aload_n 0, 1) := by decide +kernel
theorem dL_law_108 : decode cL_law 108 = .ok (.iload 4, 2) := by decide +kernel
theorem dL_law_110 : decode cL_law 110 = .ok (.iconst 3, 1) := by decide +kernel
theorem dL_law_111 : decode cL_law 111 = .ok (.iadd, 1) := by decide +kernel
theorem dL_law_112 : decode cL_law 112 = .ok (.iaload, 1) := by decide +kernel
theorem dL_law_113 : decode cL_law 113 = .ok (.aload_n 0, 1) := by decide +kernel
theorem dL_law_114 : decode cL_law 114 = .ok (.iload 4, 2) := by decide +kernel
theorem dL_law_116 : decode cL_law 116 = .ok (.iconst 4, 1) := by decide +kernel
theorem dL_law_117 : decode cL_law 117 = .ok (.iadd, 1) := by decide +kernel
theorem dL_law_118 : decode cL_law 118 = .ok (.iaload, 1) := by decide +kernel
theorem dL_law_119 : decode cL_law 119 = .ok (.aload_n 0, 1) := by decide +kernel
theorem dL_law_120 : decode cL_law 120 = .ok (.iload 4, 2) := by decide +kernel
theorem dL_law_122 : decode cL_law 122 = .ok (.iconst 5, 1) := by decide +kernel
theorem dL_law_123 : decode cL_law 123 = .ok (.iadd, 1) := by decide +kernel
theorem dL_law_124 : decode cL_law 124 = .ok (.iaload, 1) := by decide +kernel
theorem dL_law_125 : decode cL_law 125 = .ok (.aload_n 3, 1) := by decide +kernel
theorem dL_law_126 : decode cL_law 126 = .ok (.invokestatic 42, 3) := by decide +kernel
theorem dL_law_129 : decode cL_law 129 = .ok (.istore 5, 2) := by decide +kernel
theorem dL_law_131 : decode cL_law 131 = .ok (.aload_n 2, 1) := by decide +kernel
theorem dL_law_132 : decode cL_law 132 = .ok (.aload_n 0, 1) := by decide +kernel
theorem dL_law_133 : decode cL_law 133 = .ok (.iload 4, 2) := by decide +kernel
theorem dL_law_135 : decode cL_law 135 = .ok (.iconst 1, 1) := by decide +kernel
theorem dL_law_136 : decode cL_law 136 = .ok (.iadd, 1) := by decide +kernel
theorem dL_law_137 : decode cL_law 137 = .ok (.iaload, 1) := by decide +kernel
theorem dL_law_138 : decode cL_law 138 = .ok (.i2l, 1) := by decide +kernel
theorem dL_law_139 : decode cL_law 139 = .ok (.bipush 32, 2) := by decide +kernel
theorem dL_law_141 : decode cL_law 141 = .ok (.lshl, 1) := by decide +kernel
theorem dL_law_142 : decode cL_law 142 = .ok (.aload_n 0, 1) := by decide +kernel
theorem dL_law_143 : decode cL_law 143 = .ok (.iload 4, 2) := by decide +kernel
theorem dL_law_145 : decode cL_law 145 = .ok (.iconst 2, 1) := by decide +kernel
theorem dL_law_146 : decode cL_law 146 = .ok (.iadd, 1) := by decide +kernel
theorem dL_law_147 : decode cL_law 147 = .ok (.iaload, 1) := by decide +kernel
theorem dL_law_148 : decode cL_law 148 = .ok (.i2l, 1) := by decide +kernel
theorem dL_law_149 : decode cL_law 149 = .ok (.ldc2_w 40, 3) := by decide +kernel
theorem dL_law_152 : decode cL_law 152 = .ok (.land, 1) := by decide +kernel
theorem dL_law_153 : decode cL_law 153 = .ok (.lor, 1) := by decide +kernel
theorem dL_law_154 : decode cL_law 154 = .ok (.aload_n 0, 1) := by decide +kernel
theorem dL_law_155 : decode cL_law 155 = .ok (.iload 4, 2) := by decide +kernel
theorem dL_law_157 : decode cL_law 157 = .ok (.iconst 3, 1) := by decide +kernel
theorem dL_law_158 : decode cL_law 158 = .ok (.iadd, 1) := by decide +kernel
theorem dL_law_159 : decode cL_law 159 = .ok (.iaload, 1) := by decide +kernel
theorem dL_law_160 : decode cL_law 160 = .ok (.aload_n 0, 1) := by decide +kernel
theorem dL_law_161 : decode cL_law 161 = .ok (.iload 4, 2) := by decide +kernel
theorem dL_law_163 : decode cL_law 163 = .ok (.iconst 4, 1) := by decide +kernel
theorem dL_law_164 : decode cL_law 164 = .ok (.iadd, 1) := by decide +kernel
theorem dL_law_165 : decode cL_law 165 = .ok (.iaload, 1) := by decide +kernel
theorem dL_law_166 : decode cL_law 166 = .ok (.aload_n 0, 1) := by decide +kernel
theorem dL_law_167 : decode cL_law 167 = .ok (.iload 4, 2) := by decide +kernel
theorem dL_law_169 : decode cL_law 169 = .ok (.iconst 5, 1) := by decide +kernel
theorem dL_law_170 : decode cL_law 170 = .ok (.iadd, 1) := by decide +kernel
theorem dL_law_171 : decode cL_law 171 = .ok (.iaload, 1) := by decide +kernel
theorem dL_law_172 : decode cL_law 172 = .ok (.invokevirtual 47, 3) := by decide +kernel
theorem dL_law_175 : decode cL_law 175 = .ok (.istore 6, 2) := by decide +kernel
theorem dL_law_177 : decode cL_law 177 = .ok (.aload_n 2, 1) := by decide +kernel
theorem dL_law_178 : decode cL_law 178 = .ok (.invokevirtual 48, 3) := by decide +kernel
theorem dL_law_181 : decode cL_law 181 = .ok (.iload 5, 2) := by decide +kernel
theorem dL_law_183 : decode cL_law 183 = .ok (.if_icmp .eq 5, 3) := by decide +kernel
theorem dL_law_186 : decode cL_law 186 = .ok (.iconst 0, 1) := by decide +kernel
theorem dL_law_187 : decode cL_law 187 = .ok (.ireturn, 1) := by decide +kernel
theorem dL_law_188 : decode cL_law 188 = .ok (.iload 5, 2) := by decide +kernel
theorem dL_law_190 : decode cL_law 190 = .ok (.ifCond .ne 15, 3) := by decide +kernel
theorem dL_law_193 : decode cL_law 193 = .ok (.aload_n 3, 1) := by decide +kernel
theorem dL_law_194 : decode cL_law 194 = .ok (.iconst 0, 1) := by decide +kernel
theorem dL_law_195 : decode cL_law 195 = .ok (.laload, 1) := by decide +kernel
theorem dL_law_196 : decode cL_law 196 = .ok (.iload 6, 2) := by decide +kernel
theorem dL_law_198 : decode cL_law 198 = .ok (.i2l, 1) := by decide +kernel
theorem dL_law_199 : decode cL_law 199 = .ok (.lcmp, 1) := by decide +kernel
theorem dL_law_200 : decode cL_law 200 = .ok (.ifCond .eq 5, 3) := by decide +kernel
theorem dL_law_203 : decode cL_law 203 = .ok (.iconst 0, 1) := by decide +kernel
theorem dL_law_204 : decode cL_law 204 = .ok (.ireturn, 1) := by decide +kernel
theorem dL_law_205 : decode cL_law 205 = .ok (.goto 433, 3) := by decide +kernel
theorem dL_law_208 : decode cL_law 208 = .ok (.aload_n 1, 1) := by decide +kernel
theorem dL_law_209 : decode cL_law 209 = .ok (.aload_n 0, 1) := by decide +kernel
theorem dL_law_210 : decode cL_law 210 = .ok (.iload 4, 2) := by decide +kernel
theorem dL_law_212 : decode cL_law 212 = .ok (.iconst 1, 1) := by decide +kernel
theorem dL_law_213 : decode cL_law 213 = .ok (.iadd, 1) := by decide +kernel
theorem dL_law_214 : decode cL_law 214 = .ok (.iaload, 1) := by decide +kernel
theorem dL_law_215 : decode cL_law 215 = .ok (.aload_n 0, 1) := by decide +kernel
theorem dL_law_216 : decode cL_law 216 = .ok (.iload 4, 2) := by decide +kernel
theorem dL_law_218 : decode cL_law 218 = .ok (.iconst 2, 1) := by decide +kernel
theorem dL_law_219 : decode cL_law 219 = .ok (.iadd, 1) := by decide +kernel
theorem dL_law_220 : decode cL_law 220 = .ok (.iaload, 1) := by decide +kernel
theorem dL_law_221 : decode cL_law 221 = .ok (.i2l, 1) := by decide +kernel
theorem dL_law_222 : decode cL_law 222 = .ok (.bipush 32, 2) := by decide +kernel
theorem dL_law_224 : decode cL_law 224 = .ok (.lshl, 1) := by decide +kernel
theorem dL_law_225 : decode cL_law 225 = .ok (.aload_n 0, 1) := by decide +kernel
theorem dL_law_226 : decode cL_law 226 = .ok (.iload 4, 2) := by decide +kernel
theorem dL_law_228 : decode cL_law 228 = .ok (.iconst 3, 1) := by decide +kernel
theorem dL_law_229 : decode cL_law 229 = .ok (.iadd, 1) := by decide +kernel
theorem dL_law_230 : decode cL_law 230 = .ok (.iaload, 1) := by decide +kernel
theorem dL_law_231 : decode cL_law 231 = .ok (.i2l, 1) := by decide +kernel
theorem dL_law_232 : decode cL_law 232 = .ok (.ldc2_w 40, 3) := by decide +kernel
theorem dL_law_235 : decode cL_law 235 = .ok (.land, 1) := by decide +kernel
theorem dL_law_236 : decode cL_law 236 = .ok (.lor, 1) := by decide +kernel
theorem dL_law_237 : decode cL_law 237 = .ok (.aload_n 0, 1) := by decide +kernel
theorem dL_law_238 : decode cL_law 238 = .ok (.iload 4, 2) := by decide +kernel
theorem dL_law_240 : decode cL_law 240 = .ok (.iconst 4, 1) := by decide +kernel
theorem dL_law_241 : decode cL_law 241 = .ok (.iadd, 1) := by decide +kernel
theorem dL_law_242 : decode cL_law 242 = .ok (.iaload, 1) := by decide +kernel
theorem dL_law_243 : decode cL_law 243 = .ok (.aload_n 0, 1) := by decide +kernel
theorem dL_law_244 : decode cL_law 244 = .ok (.iload 4, 2) := by decide +kernel
theorem dL_law_246 : decode cL_law 246 = .ok (.iconst 5, 1) := by decide +kernel
theorem dL_law_247 : decode cL_law 247 = .ok (.iadd, 1) := by decide +kernel
theorem dL_law_248 : decode cL_law 248 = .ok (.iaload, 1) := by decide +kernel
theorem dL_law_249 : decode cL_law 249 = .ok (.aload_n 0, 1) := by decide +kernel
theorem dL_law_250 : decode cL_law 250 = .ok (.iload 4, 2) := by decide +kernel
theorem dL_law_252 : decode cL_law 252 = .ok (.bipush 6, 2) := by decide +kernel
theorem dL_law_254 : decode cL_law 254 = .ok (.iadd, 1) := by decide +kernel
theorem dL_law_255 : decode cL_law 255 = .ok (.iaload, 1) := by decide +kernel
theorem dL_law_256 : decode cL_law 256 = .ok (.aload_n 3, 1) := by decide +kernel
theorem dL_law_257 : decode cL_law 257 = .ok (.invokestatic 52, 3) := by decide +kernel
theorem dL_law_260 : decode cL_law 260 = .ok (.istore 5, 2) := by decide +kernel
theorem dL_law_262 : decode cL_law 262 = .ok (.aload_n 2, 1) := by decide +kernel
theorem dL_law_263 : decode cL_law 263 = .ok (.aload_n 0, 1) := by decide +kernel
theorem dL_law_264 : decode cL_law 264 = .ok (.iload 4, 2) := by decide +kernel
theorem dL_law_266 : decode cL_law 266 = .ok (.iconst 1, 1) := by decide +kernel
theorem dL_law_267 : decode cL_law 267 = .ok (.iadd, 1) := by decide +kernel
theorem dL_law_268 : decode cL_law 268 = .ok (.iaload, 1) := by decide +kernel
theorem dL_law_269 : decode cL_law 269 = .ok (.aload_n 0, 1) := by decide +kernel
theorem dL_law_270 : decode cL_law 270 = .ok (.iload 4, 2) := by decide +kernel
theorem dL_law_272 : decode cL_law 272 = .ok (.iconst 2, 1) := by decide +kernel
theorem dL_law_273 : decode cL_law 273 = .ok (.iadd, 1) := by decide +kernel
theorem dL_law_274 : decode cL_law 274 = .ok (.iaload, 1) := by decide +kernel
theorem dL_law_275 : decode cL_law 275 = .ok (.i2l, 1) := by decide +kernel
theorem dL_law_276 : decode cL_law 276 = .ok (.bipush 32, 2) := by decide +kernel
theorem dL_law_278 : decode cL_law 278 = .ok (.lshl, 1) := by decide +kernel
theorem dL_law_279 : decode cL_law 279 = .ok (.aload_n 0, 1) := by decide +kernel
theorem dL_law_280 : decode cL_law 280 = .ok (.iload 4, 2) := by decide +kernel
theorem dL_law_282 : decode cL_law 282 = .ok (.iconst 3, 1) := by decide +kernel
theorem dL_law_283 : decode cL_law 283 = .ok (.iadd, 1) := by decide +kernel
theorem dL_law_284 : decode cL_law 284 = .ok (.iaload, 1) := by decide +kernel
theorem dL_law_285 : decode cL_law 285 = .ok (.i2l, 1) := by decide +kernel
theorem dL_law_286 : decode cL_law 286 = .ok (.ldc2_w 40, 3) := by decide +kernel
theorem dL_law_289 : decode cL_law 289 = .ok (.land, 1) := by decide +kernel
theorem dL_law_290 : decode cL_law 290 = .ok (.lor, 1) := by decide +kernel
theorem dL_law_291 : decode cL_law 291 = .ok (.aload_n 0, 1) := by decide +kernel
theorem dL_law_292 : decode cL_law 292 = .ok (.iload 4, 2) := by decide +kernel
theorem dL_law_294 : decode cL_law 294 = .ok (.iconst 4, 1) := by decide +kernel
theorem dL_law_295 : decode cL_law 295 = .ok (.iadd, 1) := by decide +kernel
theorem dL_law_296 : decode cL_law 296 = .ok (.iaload, 1) := by decide +kernel
theorem dL_law_297 : decode cL_law 297 = .ok (.aload_n 0, 1) := by decide +kernel
theorem dL_law_298 : decode cL_law 298 = .ok (.iload 4, 2) := by decide +kernel
theorem dL_law_300 : decode cL_law 300 = .ok (.iconst 5, 1) := by decide +kernel
theorem dL_law_301 : decode cL_law 301 = .ok (.iadd, 1) := by decide +kernel
theorem dL_law_302 : decode cL_law 302 = .ok (.iaload, 1) := by decide +kernel
theorem dL_law_303 : decode cL_law 303 = .ok (.aload_n 0, 1) := by decide +kernel
theorem dL_law_304 : decode cL_law 304 = .ok (.iload 4, 2) := by decide +kernel
theorem dL_law_306 : decode cL_law 306 = .ok (.bipush 6, 2) := by decide +kernel
theorem dL_law_308 : decode cL_law 308 = .ok (.iadd, 1) := by decide +kernel
theorem dL_law_309 : decode cL_law 309 = .ok (.iaload, 1) := by decide +kernel
theorem dL_law_310 : decode cL_law 310 = .ok (.invokevirtual 55, 3) := by decide +kernel
theorem dL_law_313 : decode cL_law 313 = .ok (.istore 6, 2) := by decide +kernel
theorem dL_law_315 : decode cL_law 315 = .ok (.aload_n 2, 1) := by decide +kernel
theorem dL_law_316 : decode cL_law 316 = .ok (.invokevirtual 48, 3) := by decide +kernel
theorem dL_law_319 : decode cL_law 319 = .ok (.iload 5, 2) := by decide +kernel
theorem dL_law_321 : decode cL_law 321 = .ok (.if_icmp .eq 5, 3) := by decide +kernel
theorem dL_law_324 : decode cL_law 324 = .ok (.iconst 0, 1) := by decide +kernel
theorem dL_law_325 : decode cL_law 325 = .ok (.ireturn, 1) := by decide +kernel
theorem dL_law_326 : decode cL_law 326 = .ok (.iload 5, 2) := by decide +kernel
theorem dL_law_328 : decode cL_law 328 = .ok (.ifCond .ne 15, 3) := by decide +kernel
theorem dL_law_331 : decode cL_law 331 = .ok (.aload_n 3, 1) := by decide +kernel
theorem dL_law_332 : decode cL_law 332 = .ok (.iconst 0, 1) := by decide +kernel
theorem dL_law_333 : decode cL_law 333 = .ok (.laload, 1) := by decide +kernel
theorem dL_law_334 : decode cL_law 334 = .ok (.iload 6, 2) := by decide +kernel
theorem dL_law_336 : decode cL_law 336 = .ok (.i2l, 1) := by decide +kernel
theorem dL_law_337 : decode cL_law 337 = .ok (.lcmp, 1) := by decide +kernel
theorem dL_law_338 : decode cL_law 338 = .ok (.ifCond .eq 5, 3) := by decide +kernel
theorem dL_law_341 : decode cL_law 341 = .ok (.iconst 0, 1) := by decide +kernel
theorem dL_law_342 : decode cL_law 342 = .ok (.ireturn, 1) := by decide +kernel
theorem dL_law_343 : decode cL_law 343 = .ok (.goto 295, 3) := by decide +kernel
theorem dL_law_346 : decode cL_law 346 = .ok (.aload_n 1, 1) := by decide +kernel
theorem dL_law_347 : decode cL_law 347 = .ok (.aload_n 0, 1) := by decide +kernel
theorem dL_law_348 : decode cL_law 348 = .ok (.iload 4, 2) := by decide +kernel
theorem dL_law_350 : decode cL_law 350 = .ok (.iconst 1, 1) := by decide +kernel
theorem dL_law_351 : decode cL_law 351 = .ok (.iadd, 1) := by decide +kernel
theorem dL_law_352 : decode cL_law 352 = .ok (.iaload, 1) := by decide +kernel
theorem dL_law_353 : decode cL_law 353 = .ok (.aload_n 3, 1) := by decide +kernel
theorem dL_law_354 : decode cL_law 354 = .ok (.invokestatic 56, 3) := by decide +kernel
theorem dL_law_357 : decode cL_law 357 = .ok (.istore 5, 2) := by decide +kernel
theorem dL_law_359 : decode cL_law 359 = .ok (.aload_n 2, 1) := by decide +kernel
theorem dL_law_360 : decode cL_law 360 = .ok (.aload_n 0, 1) := by decide +kernel
theorem dL_law_361 : decode cL_law 361 = .ok (.iload 4, 2) := by decide +kernel
theorem dL_law_363 : decode cL_law 363 = .ok (.iconst 1, 1) := by decide +kernel
theorem dL_law_364 : decode cL_law 364 = .ok (.iadd, 1) := by decide +kernel
theorem dL_law_365 : decode cL_law 365 = .ok (.iaload, 1) := by decide +kernel
theorem dL_law_366 : decode cL_law 366 = .ok (.invokevirtual 59, 3) := by decide +kernel
theorem dL_law_369 : decode cL_law 369 = .ok (.istore 6, 2) := by decide +kernel
theorem dL_law_371 : decode cL_law 371 = .ok (.aload_n 2, 1) := by decide +kernel
theorem dL_law_372 : decode cL_law 372 = .ok (.invokevirtual 48, 3) := by decide +kernel
theorem dL_law_375 : decode cL_law 375 = .ok (.iload 5, 2) := by decide +kernel
theorem dL_law_377 : decode cL_law 377 = .ok (.if_icmp .eq 5, 3) := by decide +kernel
theorem dL_law_380 : decode cL_law 380 = .ok (.iconst 0, 1) := by decide +kernel
theorem dL_law_381 : decode cL_law 381 = .ok (.ireturn, 1) := by decide +kernel
theorem dL_law_382 : decode cL_law 382 = .ok (.iload 5, 2) := by decide +kernel
theorem dL_law_384 : decode cL_law 384 = .ok (.ifCond .ne 15, 3) := by decide +kernel
theorem dL_law_387 : decode cL_law 387 = .ok (.aload_n 3, 1) := by decide +kernel
theorem dL_law_388 : decode cL_law 388 = .ok (.iconst 0, 1) := by decide +kernel
theorem dL_law_389 : decode cL_law 389 = .ok (.laload, 1) := by decide +kernel
theorem dL_law_390 : decode cL_law 390 = .ok (.iload 6, 2) := by decide +kernel
theorem dL_law_392 : decode cL_law 392 = .ok (.i2l, 1) := by decide +kernel
theorem dL_law_393 : decode cL_law 393 = .ok (.lcmp, 1) := by decide +kernel
theorem dL_law_394 : decode cL_law 394 = .ok (.ifCond .eq 5, 3) := by decide +kernel
theorem dL_law_397 : decode cL_law 397 = .ok (.iconst 0, 1) := by decide +kernel
theorem dL_law_398 : decode cL_law 398 = .ok (.ireturn, 1) := by decide +kernel
theorem dL_law_399 : decode cL_law 399 = .ok (.goto 239, 3) := by decide +kernel
theorem dL_law_402 : decode cL_law 402 = .ok (.aload_n 1, 1) := by decide +kernel
theorem dL_law_403 : decode cL_law 403 = .ok (.invokevirtual 60, 3) := by decide +kernel
theorem dL_law_406 : decode cL_law 406 = .ok (.aload_n 2, 1) := by decide +kernel
theorem dL_law_407 : decode cL_law 407 = .ok (.invokevirtual 63, 3) := by decide +kernel
theorem dL_law_410 : decode cL_law 410 = .ok (.if_icmp .eq 228, 3) := by decide +kernel
theorem dL_law_413 : decode cL_law 413 = .ok (.iconst 0, 1) := by decide +kernel
theorem dL_law_414 : decode cL_law 414 = .ok (.ireturn, 1) := by decide +kernel
theorem dL_law_415 : decode cL_law 415 = .ok (.aload_n 1, 1) := by decide +kernel
theorem dL_law_416 : decode cL_law 416 = .ok (.aload_n 0, 1) := by decide +kernel
theorem dL_law_417 : decode cL_law 417 = .ok (.iload 4, 2) := by decide +kernel
theorem dL_law_419 : decode cL_law 419 = .ok (.iconst 1, 1) := by decide +kernel
theorem dL_law_420 : decode cL_law 420 = .ok (.iadd, 1) := by decide +kernel
theorem dL_law_421 : decode cL_law 421 = .ok (.iaload, 1) := by decide +kernel
theorem dL_law_422 : decode cL_law 422 = .ok (.i2l, 1) := by decide +kernel
theorem dL_law_423 : decode cL_law 423 = .ok (.bipush 32, 2) := by decide +kernel
theorem dL_law_425 : decode cL_law 425 = .ok (.lshl, 1) := by decide +kernel
theorem dL_law_426 : decode cL_law 426 = .ok (.aload_n 0, 1) := by decide +kernel
theorem dL_law_427 : decode cL_law 427 = .ok (.iload 4, 2) := by decide +kernel
theorem dL_law_429 : decode cL_law 429 = .ok (.iconst 2, 1) := by decide +kernel
theorem dL_law_430 : decode cL_law 430 = .ok (.iadd, 1) := by decide +kernel
theorem dL_law_431 : decode cL_law 431 = .ok (.iaload, 1) := by decide +kernel
theorem dL_law_432 : decode cL_law 432 = .ok (.i2l, 1) := by decide +kernel
theorem dL_law_433 : decode cL_law 433 = .ok (.ldc2_w 40, 3) := by decide +kernel
theorem dL_law_436 : decode cL_law 436 = .ok (.land, 1) := by decide +kernel
theorem dL_law_437 : decode cL_law 437 = .ok (.lor, 1) := by decide +kernel
theorem dL_law_438 : decode cL_law 438 = .ok (.aload_n 0, 1) := by decide +kernel
theorem dL_law_439 : decode cL_law 439 = .ok (.iload 4, 2) := by decide +kernel
theorem dL_law_441 : decode cL_law 441 = .ok (.iconst 3, 1) := by decide +kernel
theorem dL_law_442 : decode cL_law 442 = .ok (.iadd, 1) := by decide +kernel
theorem dL_law_443 : decode cL_law 443 = .ok (.iaload, 1) := by decide +kernel
theorem dL_law_444 : decode cL_law 444 = .ok (.aload_n 3, 1) := by decide +kernel
theorem dL_law_445 : decode cL_law 445 = .ok (.invokestatic 64, 3) := by decide +kernel
theorem dL_law_448 : decode cL_law 448 = .ok (.istore 5, 2) := by decide +kernel
theorem dL_law_450 : decode cL_law 450 = .ok (.aload_n 2, 1) := by decide +kernel
theorem dL_law_451 : decode cL_law 451 = .ok (.aload_n 0, 1) := by decide +kernel
theorem dL_law_452 : decode cL_law 452 = .ok (.iload 4, 2) := by decide +kernel
theorem dL_law_454 : decode cL_law 454 = .ok (.iconst 1, 1) := by decide +kernel
theorem dL_law_455 : decode cL_law 455 = .ok (.iadd, 1) := by decide +kernel
theorem dL_law_456 : decode cL_law 456 = .ok (.iaload, 1) := by decide +kernel
theorem dL_law_457 : decode cL_law 457 = .ok (.i2l, 1) := by decide +kernel
theorem dL_law_458 : decode cL_law 458 = .ok (.bipush 32, 2) := by decide +kernel
theorem dL_law_460 : decode cL_law 460 = .ok (.lshl, 1) := by decide +kernel
theorem dL_law_461 : decode cL_law 461 = .ok (.aload_n 0, 1) := by decide +kernel
theorem dL_law_462 : decode cL_law 462 = .ok (.iload 4, 2) := by decide +kernel
theorem dL_law_464 : decode cL_law 464 = .ok (.iconst 2, 1) := by decide +kernel
theorem dL_law_465 : decode cL_law 465 = .ok (.iadd, 1) := by decide +kernel
theorem dL_law_466 : decode cL_law 466 = .ok (.iaload, 1) := by decide +kernel
theorem dL_law_467 : decode cL_law 467 = .ok (.i2l, 1) := by decide +kernel
theorem dL_law_468 : decode cL_law 468 = .ok (.ldc2_w 40, 3) := by decide +kernel
theorem dL_law_471 : decode cL_law 471 = .ok (.land, 1) := by decide +kernel
theorem dL_law_472 : decode cL_law 472 = .ok (.lor, 1) := by decide +kernel
theorem dL_law_473 : decode cL_law 473 = .ok (.aload_n 0, 1) := by decide +kernel
theorem dL_law_474 : decode cL_law 474 = .ok (.iload 4, 2) := by decide +kernel
theorem dL_law_476 : decode cL_law 476 = .ok (.iconst 3, 1) := by decide +kernel
theorem dL_law_477 : decode cL_law 477 = .ok (.iadd, 1) := by decide +kernel
theorem dL_law_478 : decode cL_law 478 = .ok (.iaload, 1) := by decide +kernel
theorem dL_law_479 : decode cL_law 479 = .ok (.invokevirtual 67, 3) := by decide +kernel
theorem dL_law_482 : decode cL_law 482 = .ok (.istore 6, 2) := by decide +kernel
theorem dL_law_484 : decode cL_law 484 = .ok (.aload_n 2, 1) := by decide +kernel
theorem dL_law_485 : decode cL_law 485 = .ok (.invokevirtual 48, 3) := by decide +kernel
theorem dL_law_488 : decode cL_law 488 = .ok (.iload 5, 2) := by decide +kernel
theorem dL_law_490 : decode cL_law 490 = .ok (.if_icmp .eq 5, 3) := by decide +kernel
theorem dL_law_493 : decode cL_law 493 = .ok (.iconst 0, 1) := by decide +kernel
theorem dL_law_494 : decode cL_law 494 = .ok (.ireturn, 1) := by decide +kernel
theorem dL_law_495 : decode cL_law 495 = .ok (.iload 5, 2) := by decide +kernel
theorem dL_law_497 : decode cL_law 497 = .ok (.ifCond .ne 15, 3) := by decide +kernel
theorem dL_law_500 : decode cL_law 500 = .ok (.aload_n 3, 1) := by decide +kernel
theorem dL_law_501 : decode cL_law 501 = .ok (.iconst 0, 1) := by decide +kernel
theorem dL_law_502 : decode cL_law 502 = .ok (.laload, 1) := by decide +kernel
theorem dL_law_503 : decode cL_law 503 = .ok (.iload 6, 2) := by decide +kernel
theorem dL_law_505 : decode cL_law 505 = .ok (.i2l, 1) := by decide +kernel
theorem dL_law_506 : decode cL_law 506 = .ok (.lcmp, 1) := by decide +kernel
theorem dL_law_507 : decode cL_law 507 = .ok (.ifCond .eq 5, 3) := by decide +kernel
theorem dL_law_510 : decode cL_law 510 = .ok (.iconst 0, 1) := by decide +kernel
theorem dL_law_511 : decode cL_law 511 = .ok (.ireturn, 1) := by decide +kernel
theorem dL_law_512 : decode cL_law 512 = .ok (.goto 126, 3) := by decide +kernel
theorem dL_law_515 : decode cL_law 515 = .ok (.aload_n 1, 1) := by decide +kernel
theorem dL_law_516 : decode cL_law 516 = .ok (.aload_n 0, 1) := by decide +kernel
theorem dL_law_517 : decode cL_law 517 = .ok (.iload 4, 2) := by decide +kernel
theorem dL_law_519 : decode cL_law 519 = .ok (.iconst 1, 1) := by decide +kernel
theorem dL_law_520 : decode cL_law 520 = .ok (.iadd, 1) := by decide +kernel
theorem dL_law_521 : decode cL_law 521 = .ok (.iaload, 1) := by decide +kernel
theorem dL_law_522 : decode cL_law 522 = .ok (.aload_n 0, 1) := by decide +kernel
theorem dL_law_523 : decode cL_law 523 = .ok (.iload 4, 2) := by decide +kernel
theorem dL_law_525 : decode cL_law 525 = .ok (.iconst 2, 1) := by decide +kernel
theorem dL_law_526 : decode cL_law 526 = .ok (.iadd, 1) := by decide +kernel
theorem dL_law_527 : decode cL_law 527 = .ok (.iaload, 1) := by decide +kernel
theorem dL_law_528 : decode cL_law 528 = .ok (.aload_n 3, 1) := by decide +kernel
theorem dL_law_529 : decode cL_law 529 = .ok (.invokestatic 68, 3) := by decide +kernel
theorem dL_law_532 : decode cL_law 532 = .ok (.istore 5, 2) := by decide +kernel
theorem dL_law_534 : decode cL_law 534 = .ok (.aload_n 2, 1) := by decide +kernel
theorem dL_law_535 : decode cL_law 535 = .ok (.aload_n 0, 1) := by decide +kernel
theorem dL_law_536 : decode cL_law 536 = .ok (.iload 4, 2) := by decide +kernel
theorem dL_law_538 : decode cL_law 538 = .ok (.iconst 1, 1) := by decide +kernel
theorem dL_law_539 : decode cL_law 539 = .ok (.iadd, 1) := by decide +kernel
theorem dL_law_540 : decode cL_law 540 = .ok (.iaload, 1) := by decide +kernel
theorem dL_law_541 : decode cL_law 541 = .ok (.aload_n 0, 1) := by decide +kernel
theorem dL_law_542 : decode cL_law 542 = .ok (.iload 4, 2) := by decide +kernel
theorem dL_law_544 : decode cL_law 544 = .ok (.iconst 2, 1) := by decide +kernel
theorem dL_law_545 : decode cL_law 545 = .ok (.iadd, 1) := by decide +kernel
theorem dL_law_546 : decode cL_law 546 = .ok (.iaload, 1) := by decide +kernel
theorem dL_law_547 : decode cL_law 547 = .ok (.invokevirtual 71, 3) := by decide +kernel
theorem dL_law_550 : decode cL_law 550 = .ok (.lstore 6, 2) := by decide +kernel
theorem dL_law_552 : decode cL_law 552 = .ok (.aload_n 2, 1) := by decide +kernel
theorem dL_law_553 : decode cL_law 553 = .ok (.invokevirtual 48, 3) := by decide +kernel
theorem dL_law_556 : decode cL_law 556 = .ok (.iload 5, 2) := by decide +kernel
theorem dL_law_558 : decode cL_law 558 = .ok (.if_icmp .eq 5, 3) := by decide +kernel
theorem dL_law_561 : decode cL_law 561 = .ok (.iconst 0, 1) := by decide +kernel
theorem dL_law_562 : decode cL_law 562 = .ok (.ireturn, 1) := by decide +kernel
theorem dL_law_563 : decode cL_law 563 = .ok (.iload 5, 2) := by decide +kernel
theorem dL_law_565 : decode cL_law 565 = .ok (.ifCond .ne 14, 3) := by decide +kernel
theorem dL_law_568 : decode cL_law 568 = .ok (.aload_n 3, 1) := by decide +kernel
theorem dL_law_569 : decode cL_law 569 = .ok (.iconst 0, 1) := by decide +kernel
theorem dL_law_570 : decode cL_law 570 = .ok (.laload, 1) := by decide +kernel
theorem dL_law_571 : decode cL_law 571 = .ok (.lload 6, 2) := by decide +kernel
theorem dL_law_573 : decode cL_law 573 = .ok (.lcmp, 1) := by decide +kernel
theorem dL_law_574 : decode cL_law 574 = .ok (.ifCond .eq 5, 3) := by decide +kernel
theorem dL_law_577 : decode cL_law 577 = .ok (.iconst 0, 1) := by decide +kernel
theorem dL_law_578 : decode cL_law 578 = .ok (.ireturn, 1) := by decide +kernel
theorem dL_law_579 : decode cL_law 579 = .ok (.goto 59, 3) := by decide +kernel
theorem dL_law_582 : decode cL_law 582 = .ok (.aload_n 1, 1) := by decide +kernel
theorem dL_law_583 : decode cL_law 583 = .ok (.aload_n 0, 1) := by decide +kernel
theorem dL_law_584 : decode cL_law 584 = .ok (.iload 4, 2) := by decide +kernel
theorem dL_law_586 : decode cL_law 586 = .ok (.iconst 1, 1) := by decide +kernel
theorem dL_law_587 : decode cL_law 587 = .ok (.iadd, 1) := by decide +kernel
theorem dL_law_588 : decode cL_law 588 = .ok (.iaload, 1) := by decide +kernel
theorem dL_law_589 : decode cL_law 589 = .ok (.aload_n 3, 1) := by decide +kernel
theorem dL_law_590 : decode cL_law 590 = .ok (.invokestatic 72, 3) := by decide +kernel
theorem dL_law_593 : decode cL_law 593 = .ok (.istore 5, 2) := by decide +kernel
theorem dL_law_595 : decode cL_law 595 = .ok (.aload_n 2, 1) := by decide +kernel
theorem dL_law_596 : decode cL_law 596 = .ok (.aload_n 0, 1) := by decide +kernel
theorem dL_law_597 : decode cL_law 597 = .ok (.iload 4, 2) := by decide +kernel
theorem dL_law_599 : decode cL_law 599 = .ok (.iconst 1, 1) := by decide +kernel
theorem dL_law_600 : decode cL_law 600 = .ok (.iadd, 1) := by decide +kernel
theorem dL_law_601 : decode cL_law 601 = .ok (.iaload, 1) := by decide +kernel
theorem dL_law_602 : decode cL_law 602 = .ok (.invokevirtual 74, 3) := by decide +kernel
theorem dL_law_605 : decode cL_law 605 = .ok (.istore 6, 2) := by decide +kernel
theorem dL_law_607 : decode cL_law 607 = .ok (.aload_n 2, 1) := by decide +kernel
theorem dL_law_608 : decode cL_law 608 = .ok (.invokevirtual 48, 3) := by decide +kernel
theorem dL_law_611 : decode cL_law 611 = .ok (.iload 5, 2) := by decide +kernel
theorem dL_law_613 : decode cL_law 613 = .ok (.if_icmp .eq 5, 3) := by decide +kernel
theorem dL_law_616 : decode cL_law 616 = .ok (.iconst 0, 1) := by decide +kernel
theorem dL_law_617 : decode cL_law 617 = .ok (.ireturn, 1) := by decide +kernel
theorem dL_law_618 : decode cL_law 618 = .ok (.iload 5, 2) := by decide +kernel
theorem dL_law_620 : decode cL_law 620 = .ok (.ifCond .ne 15, 3) := by decide +kernel
theorem dL_law_623 : decode cL_law 623 = .ok (.aload_n 3, 1) := by decide +kernel
theorem dL_law_624 : decode cL_law 624 = .ok (.iconst 0, 1) := by decide +kernel
theorem dL_law_625 : decode cL_law 625 = .ok (.laload, 1) := by decide +kernel
theorem dL_law_626 : decode cL_law 626 = .ok (.iload 6, 2) := by decide +kernel
theorem dL_law_628 : decode cL_law 628 = .ok (.i2l, 1) := by decide +kernel
theorem dL_law_629 : decode cL_law 629 = .ok (.lcmp, 1) := by decide +kernel
theorem dL_law_630 : decode cL_law 630 = .ok (.ifCond .eq 5, 3) := by decide +kernel
theorem dL_law_633 : decode cL_law 633 = .ok (.iconst 0, 1) := by decide +kernel
theorem dL_law_634 : decode cL_law 634 = .ok (.ireturn, 1) := by decide +kernel
theorem dL_law_635 : decode cL_law 635 = .ok (.goto 3, 3) := by decide +kernel
theorem dL_law_638 : decode cL_law 638 = .ok (.iinc 4 7, 3) := by decide +kernel
theorem dL_law_641 : decode cL_law 641 = .ok (.goto (-618), 3) := by decide +kernel
theorem dL_law_644 : decode cL_law 644 = .ok (.iconst 1, 1) := by decide +kernel
theorem dL_law_645 : decode cL_law 645 = .ok (.ireturn, 1) := by decide +kernel
end
section
/-! CONTRACTS WITH EITHER OUTCOME (returned or threw); calls by them; a thrown exception out of a frame or into a handler -/
set_option maxRecDepth 100000
def XEnd (st t : State) (L : List Loc) (k n : Nat) : Prop := st.WarmedH t.vm ∧ st.sameButNew ({ t with vm := st.vm } : State) L k n
def XMet (l : Launch) (y : MethodName) (ws : List Cond) (rm : Room) (Pc : Array Value → State → Prop) (Qc : Array Value → State → Outcome → State → Prop) (mc ms : Nat) (free : Addr → Prop) : Prop :=
  MetFree l y (headSpec ws rm) Pc (fun _ _ _ _ _ => True) (fun a st o t => Qc a st o t ∧ ∃ L, XEnd st t L mc ms ∧ ∀ q ∈ L, free q.base)
def XMQ (below : List Frame) (Qc : Array Value → State → Outcome → State → Prop) (a : Array Value) (s : State) (mc ms : Nat) (free : Addr → Prop) : State → Prop := fun t =>
  ∃ o, t.status = .running ∧ Ended t below o ∧ Qc a s o t ∧ ∃ L, XEnd s t L mc ms ∧ ∀ q ∈ L, free q.base
section XA
variable {l : Launch}
theorem XMet.ofW {y : MethodName} {ws ws' : List Cond} {rm : Room} {Pc : Array Value → State → Prop} {Qc : Array Value → State → Outcome → State → Prop} {mc ms : Nat} {free : Addr → Prop} {cc : ByteArray} {maxL : Nat} {ret : Option FieldType}
    (hy : plainName y.cls = true) (hw : ws = Cond.code y cc maxL ret :: ws')
    (body : ∀ p e s m args below meth c s₁, BodyLoose p l y (headSpec ws rm) cc maxL ret e s m args below meth c s₁ → c.maxLocals = maxL → c.exceptionTable.isEmpty = true → Pc args s →
      W p l e (headSpec ws rm).room s m args below meth c s.heap [] 0 0 (XMQ below Qc args s mc ms free) (entryFrame m args maxL)) : XMet l y ws rm Pc Qc mc ms free := by
  refine MetFree.of_bodyS (code := cc) (maxLocals := maxL) (ret := ret) hy ?_ ?_
  · intro args s m h hn
    obtain ⟨meth, c, h1, h2, h3, h4, h5, h6, -, -⟩ := Cond.code_spec hn (atoms_spec (ws := ws) h _ (by rw [hw]; exact List.mem_cons_self))
    exact ⟨meth, c, h1, h2, h3, h4, h5, h6⟩
  · intro p e s m args below meth c s₁ B hml hP _
    have hh0 : s₁.heap = s.heap := by rw [B.state]; rfl
    have hno : c.exceptionTable.isEmpty = true := B.noHandlers (atoms_spec (ws := ws) B.pre _ (by rw [hw]; exact List.mem_cons_self))
    obtain ⟨t, a1, o, b1, b2, b3⟩ := body p e s m args below meth c s₁ B hml hno hP s₁ hh0 (Stand.of_body B)
    exact ⟨t, o, a1, b1, b2, ⟨b3.1, b3.2⟩⟩
theorem XMet.ofWH {y : MethodName} {ws ws' : List Cond} {rm : Room} {Pc : Array Value → State → Prop} {Qc : Array Value → State → Outcome → State → Prop} {mc ms : Nat} {free : Addr → Prop} {cc : ByteArray} {maxL : Nat} {ret : Option FieldType} {hh : List (Nat × Nat × Nat × Nat)}
    (hy : plainName y.cls = true) (hw : ws = Cond.codeWith y cc maxL ret hh :: ws')
    (body : ∀ p e s m args below meth c s₁, BodyLoose p l y (headSpec ws rm) cc maxL ret e s m args below meth c s₁ → c.maxLocals = maxL → c.exceptionTable.toList = tableOf hh → Pc args s →
      W p l e (headSpec ws rm).room s m args below meth c s.heap [] 0 0 (XMQ below Qc args s mc ms free) (entryFrame m args maxL)) : XMet l y ws rm Pc Qc mc ms free := by
  refine MetFree.of_bodyS (code := cc) (maxLocals := maxL) (ret := ret) hy ?_ ?_
  · intro args s m h hn
    obtain ⟨m9, meth, c, hn9, h1, h2, h3, h4, -, h5, h6, -⟩ := Cond.codeWith_spec (atoms_spec (ws := ws) h _ (by rw [hw]; exact List.mem_cons_self))
    cases hn.symm.trans hn9
    exact ⟨meth, c, h1, h2, h3, h4, h5, h6⟩
  · intro p e s m args below meth c s₁ B hml hP _
    have hh0 : s₁.heap = s.heap := by rw [B.state]; rfl
    have htab : c.exceptionTable.toList = tableOf hh := by
      obtain ⟨m9, meth', c', hn9, h1, h2, -, -, h5, -⟩ := Cond.codeWith_spec (atoms_spec (ws := ws) B.pre _ (by rw [hw]; exact List.mem_cons_self))
      cases B.named.symm.trans hn9
      cases B.method.symm.trans h1
      cases (Stand.of_body B).code.symm.trans h2
      rw [← table_eq c.exceptionTable.toList, h5]
    obtain ⟨t, a1, o, b1, b2, b3⟩ := body p e s m args below meth c s₁ B hml htab hP s₁ hh0 (Stand.of_body B)
    exact ⟨t, o, a1, b1, b2, ⟨b3.1, b3.2⟩⟩
end XA
/-- where a call lands -/
def xland (o : Outcome) (U : State) (g : JFrame) : State := match o with
  | .returned v => U.setTop { g with pc := g.pc + 3, stack := v.toList ++ g.stack }
  | .threw a => (U.setTop g).pushFrame (.throwing a)
section XB
variable {p : Program} {l : Launch} {e : Env} {R : Room} {s : State} {m : MethodId} {args : Array Value} {below : List Frame} {meth : Method} {c : Code} {T : State} {H : Heap} {locs : List Loc} {cells slots : Nat}
theorem xback {y : MethodName} {ws : List Cond} {rm : Room} {Pc : Array Value → State → Prop} {Qc : Array Value → State → Outcome → State → Prop} {mc ms maxL : Nat} {free : Addr → Prop}
    (X : Stand p l e R s m args below meth c T locs cells slots) (hM : XMet l y ws rm Pc Qc mc ms free) (hblind : FrameBlind Pc) (hrc : rm.cells = mc) (hrs : rm.slots = ms) (hframes : rm.frames + 1 ≤ R.frames) (hlocals : 8 + (maxL + 11) + rm.locals ≤ R.locals)
    (hws : ∀ w ∈ ws, ∀ (a' : Array Value) (U : State), s.WarmedH U.vm → w.before a' U = true)
    {mk : MethodId} {methY : Method} {cY : Code} (hn : T.methodNamed? y = some mk) (hmY : T.vm.method? mk = some methY) (hcY : methY.code = some cY) (hlY : cY.maxLocals = maxL) (hini : (Cond.initialized y.cls).before args s = true)
    {g : JFrame} (hg : g.method = m) (hsize : g.locals.size = c.maxLocals) {ig : Instr} (hdg : decode c.code g.pc = .ok (ig, 3)) (hW : 2 * g.monitorRoom + (g.stack.map fun v => v.category).sum ≤ 8)
    (hc : cells + mc ≤ R.cells) (hs : slots + ms ≤ R.slots) {a : Array Value} (hP : Pc a T) :
    ∃ (o : Outcome) (t T' : State) (L : List Loc), Stand p l e R s m args below meth c T' (locs ++ L) (cells + mc) (slots + ms) ∧ (∀ q ∈ L, free q.base) ∧ T'.heap = t.heap ∧ T'.vm = t.vm ∧ Qc a (T.calling g mk a) o t ∧
      Steps p.tables e below (doInvoke e (T.setTop g) [] mk a).1 (xland o T' g) := by
  obtain ⟨kY, hkY, -⟩ := className_of_methodNamed hn
  have h3 : (Cond.initialized y.cls).before a T = true := word_at X.warmed (Or.inl (by first | rfl | simp [Cond.onTables, Cond.keeps, Cond.steady])) hini
  have hinitY : kY.init = .initialized := Cond.initialized_spec (findClass_of_methodNamed hn) hkY h3
  have h : At T g.method c below := by rw [hg]; exact X.here
  have happ : (headSpec ws rm).appliesLoose y e.platform (T.calling g mk a) = true :=
    Spec.appliesLoose_calling (g := g) h hdg hn hkY hinitY
      (X.room_calling (g := g) (R' := (headSpec ws rm).room) hsize hmY hcY hframes (by rw [hlY]; show _ + rm.locals ≤ _; omega) (by show cells + rm.cells ≤ _; omega) (by show slots + rm.slots ≤ _; omega)) (atoms_intro fun w hw => hws w hw _ _ X.warmed)
  have hfr : (T.setTop g).frames = [.java g] ++ below := by rw [State.frames_setTop' g h.top, X.tail]; rfl
  obtain ⟨o, t, hsteps, -, hend, hq⟩ := Steps.callFree hM p X.admits X.cas X.clock (acts := []) hfr happ (hblind _ _ _ _ hP) trivial
  rw [State.frames_setTop' g h.top, X.tail] at hend
  have hq' : Qc a (T.calling g mk a) o t ∧ ∃ L, XEnd (T.calling g mk a) t L mc ms ∧ ∀ q ∈ L, free q.base := hq
  obtain ⟨hq1, L, ⟨hW2, hsame⟩, hL⟩ := hq'
  cases o with
  | returned v =>
    obtain ⟨T', X', -, -, ht⟩ := X.outOf hg hdg hend hW2 hsame
    subst ht
    exact ⟨.returned v, T'.setTop { g with pc := g.pc + 3, stack := v.toList ++ g.stack }, T', L, X', hL, rfl, rfl, hq1, hsteps⟩
  | threw x =>
    obtain ⟨T', X', -, -, ht⟩ := X.outOfThrown hg hend hW2 hsame
    subst ht
    exact ⟨.threw x, (T'.setTop g).pushFrame (.throwing x), T', L, X', hL, rfl, rfl, hq1, hsteps⟩
def XRun (p : Program) (l : Launch) (e : Env) (R : Room) (s : State) (m : MethodId) (args : Array Value) (below : List Frame) (meth : Method) (c : Code) (H : Heap) (locs : List Loc) (cells slots mc ms : Nat) (g : JFrame) (rest : List Value) (Qa : State → Outcome → State → Prop) (free : Addr → Prop) : Prop :=
  ∀ T : State, T.heap = H → Stand p l e R s m args below meth c T locs cells slots → ∃ (o : Outcome) (st₀ t T' : State) (L : List Loc), st₀.heap = H ∧ Stand p l e R s m args below meth c T' (locs ++ L) (cells + mc) (slots + ms) ∧ (∀ q ∈ L, free q.base) ∧ T'.heap = t.heap ∧ T'.vm = t.vm ∧ Qa st₀ o t ∧
    ∀ target, Steps p.tables e below (xland o T' { g with stack := rest }) target → Steps p.tables e below (T.setTop g) target
variable {y : MethodName} {bytes cc : ByteArray} {maxL nL mc ms n index : Nat} {ret : Option FieldType} {ws : List Cond} {rm : Room} {Pc : Array Value → State → Prop} {Qc : Array Value → State → Outcome → State → Prop} {free : Addr → Prop} {Ts : List Cond} {own C : String} {b : Addr} {As rest : List Value} {g : JFrame}
theorem xrunV (S : CallFix p m c cc nL s args Ts own) (hM : XMet l y ws rm Pc Qc mc ms free) (cw : CallW R s args own C index y bytes maxL ret ws rm mc ms n) (hp : PreV s H C b Pc As)
    (hg : g.method = m) (hn : As.length = n) (hsize : g.locals.size = nL) (hstack : g.stack = As.reverse ++ .ref b :: rest) (hW : 2 * g.monitorRoom + (rest.map fun v => v.category).sum ≤ 8) (hdg : decode cc g.pc = .ok (.invokevirtual index, 3)) (hf : cells + mc ≤ R.cells ∧ slots + ms ≤ R.slots) :
    XRun p l e R s m args below meth c H locs cells slots mc ms g rest (Qc (Value.ref b :: As).toArray) free := by
  obtain ⟨⟨hrc, hrs, hfr, hlo, hws, hcw, hcode, hini, hy, hlen, hl⟩, hin, hse⟩ := cw
  obtain ⟨hx, hb, hml, ho, -⟩ := S
  obtain ⟨hbl, ⟨cellB, hcB, hoB, hclB⟩, hPc⟩ := hp
  intro T hT X
  obtain ⟨mk, methM, hnamed, hmethM, hstM, habM⟩ := Cond.instanceMethod_spec hin
  obtain ⟨methM', cM, hmethM', hcM, -, hlM, -, -, -, hsigM⟩ := Cond.code_spec hnamed hcode
  cases hmethM.symm.trans hmethM'
  obtain ⟨c2, r2, m2, q1, q2, q3, q4, kP, hkP, hkPi⟩ := Cond.selects_spec hse
  cases hclB.symm.trans q1
  cases (State.methodFound?_of_named hnamed hy).symm.trans q2
  cases hnamed.symm.trans q3
  have hselP : selectMethod e.platform s.vm cellB.cls mk = .method mk := by rw [Launch.admits_selectMethod X.admits]; exact q4
  obtain ⟨vm₁, X₁, hstep₁⟩ := X.invokevirtual hx ho hl hnamed hmethM hstM hkP hkPi hy (a := b) (cell := cellB) (by rw [hT]; exact hcB)
    (fun z h => by rw [h] at hoB; cases hoB) hselP hmethM habM hkP hkPi (g := g) hg (argsL := As) (rest := rest) (hn.trans (hlen _ hsigM)) hstack (by rw [hb]; exact hdg)
  obtain ⟨o, t, T', L, X', hL, e1, e2, hq, hsteps⟩ := xback X₁ hM hbl hrc hrs hfr hlo hws (X₁.named hnamed) (methY := methM) (cY := cM) (by rw [X₁.warmed.alike.method?]; exact hmethM) hcM hlM hini (g := { g with stack := rest }) hg (hsize.trans hml.symm) (by rw [hb]; exact hdg) hW hf.1 hf.2 (a := (Value.ref b :: As).toArray) (hPc (T.setVm vm₁) hT X₁.warmed)
  exact ⟨o, (T.setVm vm₁).calling { g with stack := rest } mk (Value.ref b :: As).toArray, t, T', L, hT, X', hL, e1, e2, hq, fun target h => hstep₁ _ fun acts => by rw [doInvoke_state]; exact hsteps.trans h⟩
theorem xrunS (S : CallFix p m c cc nL s args Ts own) (hM : XMet l y ws rm Pc Qc mc ms free) (cw : CallB R s args own index y bytes maxL ret ws rm mc ms n ∧ (Cond.static y).before args s = true) (hp : PreS s H Pc As)
    (hg : g.method = m) (hn : As.length = n) (hsize : g.locals.size = nL) (hstack : g.stack = As.reverse ++ rest) (hW : 2 * g.monitorRoom + (rest.map fun v => v.category).sum ≤ 8) (hdg : decode cc g.pc = .ok (.invokestatic index, 3)) (hf : cells + mc ≤ R.cells ∧ slots + ms ≤ R.slots) :
    XRun p l e R s m args below meth c H locs cells slots mc ms g rest (Qc As.toArray) free := by
  obtain ⟨⟨hrc, hrs, hfr, hlo, hws, hcw, hcode, hini, hy, hlen, hl⟩, hstt⟩ := cw
  obtain ⟨hx, hb, hml, ho, -⟩ := S
  obtain ⟨hbl, hPc⟩ := hp
  intro T hT X
  obtain ⟨mk, hnamed⟩ := Cond.code_named hcode
  obtain ⟨methM, cM, hmethM, hcM, -, hlM, -, -, -, hsigM⟩ := Cond.code_spec hnamed hcode
  have hstatic : methM.isStatic = true := Cond.static_spec hnamed hmethM hstt
  obtain ⟨kP, hkP, -⟩ := className_of_methodNamed hnamed
  have hinitP : kP.init = .initialized := Cond.initialized_spec (findClass_of_methodNamed hnamed) hkP hini
  obtain ⟨vm₁, X₁, hstep₁⟩ := X.invokestatic hx ho hl hnamed hmethM hstatic hkP hinitP hy (g := g) hg (argsL := As) (rest := rest) (hn.trans (hlen _ hsigM)) hstack (by rw [hb]; exact hdg)
  obtain ⟨o, t, T', L, X', hL, e1, e2, hq, hsteps⟩ := xback X₁ hM hbl hrc hrs hfr hlo hws (X₁.named hnamed) (methY := methM) (cY := cM) (by rw [X₁.warmed.alike.method?]; exact hmethM) hcM hlM hini (g := { g with stack := rest }) hg (hsize.trans hml.symm) (by rw [hb]; exact hdg) hW hf.1 hf.2 (a := As.toArray) (hPc (T.setVm vm₁) hT X₁.warmed)
  exact ⟨o, (T.setVm vm₁).calling { g with stack := rest } mk As.toArray, t, T', L, hT, X', hL, e1, e2, hq, fun target h => hstep₁ _ fun acts => by rw [doInvoke_state]; exact hsteps.trans h⟩
/-- a static call of a method with handlers -/
theorem xrunSW {hh : List (Nat × Nat × Nat × Nat)} (S : CallFix p m c cc nL s args Ts own) (hM : XMet l y ws rm Pc Qc mc ms free)
    (hrc : rm.cells = mc) (hrs : rm.slots = ms) (hfr : rm.frames + 1 ≤ R.frames) (hlo : 8 + (maxL + 11) + rm.locals ≤ R.locals) (hG : GoodIn Ts (va_wsS own index y ws)) (hw : Cond.codeWith y bytes maxL ret hh ∈ ws) (hy : y.cls ≠ "java/lang/invoke/MethodHandle" ∧ y.cls ≠ "java/lang/invoke/VarHandle" ∧ (parseMethodDescriptor y.desc).map (fun d => d.parameters.length) = some n) (hp : PreS s H Pc As)
    (hg : g.method = m) (hn : As.length = n) (hsize : g.locals.size = nL) (hstack : g.stack = As.reverse ++ rest) (hW : 2 * g.monitorRoom + (rest.map fun v => v.category).sum ≤ 8) (hdg : decode cc g.pc = .ok (.invokestatic index, 3)) (hf : cells + mc ≤ R.cells ∧ slots + ms ≤ R.slots) :
    XRun p l e R s m args below meth c H locs cells slots mc ms g rest (Qc As.toArray) free := by
  obtain ⟨hx, hb, hml, ho, hts⟩ := S
  obtain ⟨hbl, hPc⟩ := hp
  have hG2 : GoodIn Ts ws := fun w h => hG w (by unfold va_wsS; exact List.mem_append_right _ h)
  have hws := pay_in (s := s) (args := args) hts hG2
  have ok : ∀ w ∈ va_wsS own index y ws, w.before args s = true := fun w h => hts w (hG w h).1
  have hl : (Cond.methodLink own index y).before args s = true := ok _ (by simp [va_wsS])
  have hstt : (Cond.static y).before args s = true := ok _ (by simp [va_wsS])
  have hini : (Cond.initialized y.cls).before args s = true := ok _ (by simp [va_wsS])
  have hcode : (Cond.codeWith y bytes maxL ret hh).before args s = true := hts _ (hG2 _ hw).1
  intro T hT X
  obtain ⟨mk, methM, cM, hnamed, hmethM, hcM, -, hlM, -, -, -, hsigM⟩ := Cond.codeWith_spec hcode
  have hstatic : methM.isStatic = true := Cond.static_spec hnamed hmethM hstt
  obtain ⟨kP, hkP, -⟩ := className_of_methodNamed hnamed
  have hinitP : kP.init = .initialized := Cond.initialized_spec (findClass_of_methodNamed hnamed) hkP hini
  have hlen : As.length = methM.sig.parameters.length := by
    have h2 := hy.2.2
    rw [hsigM] at h2
    rw [hn]
    exact (Option.some.inj h2).symm
  obtain ⟨vm₁, X₁, hstep₁⟩ := X.invokestatic hx ho hl hnamed hmethM hstatic hkP hinitP ⟨hy.1, hy.2.1⟩ (g := g) hg (argsL := As) (rest := rest) hlen hstack (by rw [hb]; exact hdg)
  obtain ⟨o, t, T', L, X', hL, e1, e2, hq, hsteps⟩ := xback X₁ hM hbl hrc hrs hfr hlo hws (X₁.named hnamed) (methY := methM) (cY := cM) (by rw [X₁.warmed.alike.method?]; exact hmethM) hcM hlM hini (g := { g with stack := rest }) hg (hsize.trans hml.symm) (by rw [hb]; exact hdg) hW hf.1 hf.2 (a := As.toArray) (hPc (T.setVm vm₁) hT X₁.warmed)
  exact ⟨o, (T.setVm vm₁).calling { g with stack := rest } mk As.toArray, t, T', L, hT, X', hL, e1, e2, hq, fun target h => hstep₁ _ fun acts => by rw [doInvoke_state]; exact hsteps.trans h⟩
theorem xrunI (S : CallFix p m c cc nL s args Ts own) (hM : XMet l y ws rm Pc Qc mc ms free) (cw : CallB R s args own index y bytes maxL none ws rm mc ms n ∧ y.name = "<init>" ∧ (Cond.instanceMethod y).before args s = true) (hp : PreS s H Pc (.ref b :: As))
    (hg : g.method = m) (hn : As.length = n) (hsize : g.locals.size = nL) (hstack : g.stack = As.reverse ++ .ref b :: rest) (hW : 2 * g.monitorRoom + (rest.map fun v => v.category).sum ≤ 8) (hdg : decode cc g.pc = .ok (.invokespecial index, 3)) (hf : cells + mc ≤ R.cells ∧ slots + ms ≤ R.slots) :
    XRun p l e R s m args below meth c H locs cells slots mc ms g rest (Qc (Value.ref b :: As).toArray) free := by
  obtain ⟨⟨hrc, hrs, hfr, hlo, hws, hcw, hcode, hini, hy, hlen, hl⟩, hy1, hin⟩ := cw
  obtain ⟨hx, hb, hml, ho, -⟩ := S
  obtain ⟨hbl, hPc⟩ := hp
  intro T hT X
  subst hg
  have hpl : e.platform.magicAccessors = ({} : Platform).magicAccessors := by rw [X.admits.platform]
  obtain ⟨mk, methM, cM, kP, vm₁, hnamed, hmethM, hcodeM, -, hlocalsM, -, hkP, -, hW₁, hstep₁⟩ := Steps.initColdArgs (e := e) X.here hx X.warmed hpl ho hy1 hy hl hin hcode (f := g) rfl (fun sig h => hn.trans (hlen sig h)) hstack (by rw [hb]; exact hdg)
  have X₁ := X.noted hW₁
  obtain ⟨o, t, T', L, X', hL, e1, e2, hq, hsteps⟩ := xback X₁ hM hbl hrc hrs hfr hlo hws (X₁.named hnamed) (methY := methM) (cY := cM) (by rw [X₁.warmed.alike.method?]; exact hmethM) hcodeM hlocalsM hini (g := { g with stack := rest }) rfl (hsize.trans hml.symm) (by rw [hb]; exact hdg) hW hf.1 hf.2 (a := (Value.ref b :: As).toArray) (hPc (T.setVm vm₁) hT X₁.warmed)
  exact ⟨o, (T.setVm vm₁).calling { g with stack := rest } mk (Value.ref b :: As).toArray, t, T', L, hT, X', hL, e1, e2, hq, fun target h => hstep₁ _ fun acts => by rw [doInvoke_state]; exact hsteps.trans h⟩
theorem xrunIN {host : String} (S : CallFix p m c cc nL s args Ts own) (hM : XMet l y ws rm Pc Qc mc ms free) (cw : va_CN R s args own index y host bytes maxL none ws rm mc ms n ∧ y.name = "<init>" ∧ (Cond.instanceMethod y).before args s = true) (hp : PreS s H Pc (.ref b :: As))
    (hg : g.method = m) (hn : As.length = n) (hsize : g.locals.size = nL) (hstack : g.stack = As.reverse ++ .ref b :: rest) (hW : 2 * g.monitorRoom + (rest.map fun v => v.category).sum ≤ 8) (hdg : decode cc g.pc = .ok (.invokespecial index, 3)) (hf : cells + mc ≤ R.cells ∧ slots + ms ≤ R.slots) :
    XRun p l e R s m args below meth c H locs cells slots mc ms g rest (Qc (Value.ref b :: As).toArray) free := by
  obtain ⟨⟨⟨hrc, hrs, hfr, hlo, hws, hcw⟩, hcode, hini, hy, hlen, hl⟩, hy1, hin⟩ := cw
  obtain ⟨hx, hb, hml, ho, -⟩ := S
  obtain ⟨hbl, hPc⟩ := hp
  intro T hT X
  subst hg
  have hpl : e.platform.magicAccessors = ({} : Platform).magicAccessors := by rw [X.admits.platform]
  obtain ⟨mk, methM, cM, kP, vm₁, hnamed, hmethM, hcodeM, -, hlocalsM, -, hkP, -, hW₁, hstep₁⟩ := Steps.initColdArgsNest (e := e) X.here hx X.warmed hpl ho hy1 hy hl hin hcode (f := g) rfl (fun sig h => hn.trans (hlen sig h)) hstack (by rw [hb]; exact hdg)
  have X₁ := X.noted hW₁
  obtain ⟨o, t, T', L, X', hL, e1, e2, hq, hsteps⟩ := xback X₁ hM hbl hrc hrs hfr hlo hws (X₁.named hnamed) (methY := methM) (cY := cM) (by rw [X₁.warmed.alike.method?]; exact hmethM) hcodeM hlocalsM hini (g := { g with stack := rest }) rfl (hsize.trans hml.symm) (by rw [hb]; exact hdg) hW hf.1 hf.2 (a := (Value.ref b :: As).toArray) (hPc (T.setVm vm₁) hT X₁.warmed)
  exact ⟨o, (T.setVm vm₁).calling { g with stack := rest } mk (Value.ref b :: As).toArray, t, T', L, hT, X', hL, e1, e2, hq, fun target h => hstep₁ _ fun acts => by rw [doInvoke_state]; exact hsteps.trans h⟩
end XB
/-- the walk where the exception x has just been thrown in the frame g -/
def WT (p : Program) (l : Launch) (e : Env) (R : Room) (s : State) (m : MethodId) (args : Array Value) (below : List Frame) (meth : Method) (c : Code) (H : Heap) (locs : List Loc) (cells slots : Nat) (Q : State → Prop) (g : JFrame) (x : Addr) : Prop :=
  ∀ T : State, T.heap = H → Stand p l e R s m args below meth c T locs cells slots → ∃ t, Steps p.tables e below ((T.setTop g).pushFrame (.throwing x)) t ∧ Q t
/-- a method's end: what it answers and the heap behind it; what isn't in A stays -/
def xQ (Post : Outcome → Heap → Prop) (A : Nat → Prop) : Array Value → State → Outcome → State → Prop := fun _ st o t => Post o t.heap ∧ va_F A st t
section XC
variable {p : Program} {l : Launch} {e : Env} {R : Room} {s : State} {m : MethodId} {args : Array Value} {below : List Frame} {meth : Method} {c : Code} {H : Heap} {locs : List Loc} {cells slots : Nat} {Q : State → Prop}
variable {pc : Nat} {ls : Array Slot} {rest st0 : List Value} {a : Array Value} {A0 A1 : Nat → Prop} {H0 : Heap} {mc ms : Nat} {free : Addr → Prop} {Post : Outcome → Heap → Prop}
theorem xgo (hr : XRun p l e R s m args below meth c H locs cells slots mc ms (F0 m pc ls st0) rest (xQ Post A1 a) free) (hS : va_S A0 H0 H locs) (hA : ∀ q, q < H.size → A1 q → A0 q) (hf : ∀ q, free q → A0 q)
    (kr : ∀ (v : Option Value) (H1 : Heap) (locs1 : List Loc), Post (.returned v) H1 → H.size ≤ H1.size → (∀ q : Nat, q < H.size → ¬ A1 q → H1[q]? = H[q]?) → va_S A0 H0 H1 locs1 → W p l e R s m args below meth c H1 locs1 (cells + mc) (slots + ms) Q (F0 m (pc + 3) ls (v.toList ++ rest)))
    (kt : ∀ (x : Addr) (H1 : Heap) (locs1 : List Loc), Post (.threw x) H1 → H.size ≤ H1.size → (∀ q : Nat, q < H.size → ¬ A1 q → H1[q]? = H[q]?) → va_S A0 H0 H1 locs1 → WT p l e R s m args below meth c H1 locs1 (cells + mc) (slots + ms) Q (F0 m pc ls rest) x) : W p l e R s m args below meth c H locs cells slots Q (F0 m pc ls st0) := by
  intro T hT X
  obtain ⟨o, st₀, t, T', L, h0, X', hL, e1, e2, ⟨hp, hz, hk⟩, st⟩ := hr T hT X
  rw [h0] at hz hk
  have hz1 : H.size ≤ T'.heap.size := by rw [e1]; exact hz
  have hk1 : ∀ q : Nat, q < H.size → ¬ A1 q → T'.heap[q]? = H[q]? := fun q h1 h2 => by rw [e1]; exact hk q h1 h2
  have hS1 : va_S A0 H0 T'.heap (locs ++ L) := ⟨Nat.le_trans hS.1 hz1, fun q h1 h2 => by rw [hk1 q (Nat.lt_of_lt_of_le h1 hS.1) (fun z => h2 (hA q (Nat.lt_of_lt_of_le h1 hS.1) z))]; exact hS.2.1 q h1 h2, fun q hq => by
      rcases List.mem_append.mp hq with h | h
      · exact hS.2.2 q h
      · exact hf _ (hL q h)⟩
  cases o with
  | returned v =>
    obtain ⟨t2, a1, b1⟩ := kr v T'.heap (locs ++ L) (by rw [e1]; exact hp) hz1 hk1 hS1 T' rfl X'
    exact ⟨t2, st t2 a1, b1⟩
  | threw x =>
    obtain ⟨t2, a1, b1⟩ := kt x T'.heap (locs ++ L) (by rw [e1]; exact hp) hz1 hk1 hS1 T' rfl X'
    exact ⟨t2, st t2 a1, b1⟩
/-- a method that answers the int r -/
def pI (r : Int32) (P : Heap → Prop) : Outcome → Heap → Prop := fun o H => o = .returned (some (.int r)) ∧ P H
def pL (r : Int64) (P : Heap → Prop) : Outcome → Heap → Prop := fun o H => o = .returned (some (.long r)) ∧ P H
def pV (P : Heap → Prop) : Outcome → Heap → Prop := fun o H => o = .returned none ∧ P H
def pE (P : Int32 → Heap → Prop) : Outcome → Heap → Prop := fun o H => ∃ r : Int32, o = .returned (some (.int r)) ∧ P r H
theorem xgoI {r : Int32} {P : Heap → Prop} (hr : XRun p l e R s m args below meth c H locs cells slots mc ms (F0 m pc ls st0) rest (xQ (pI r P) A1 a) free) (hS : va_S A0 H0 H locs) (hA : ∀ q, q < H.size → A1 q → A0 q) (hf : ∀ q, free q → A0 q)
    (kr : ∀ (H1 : Heap) (locs1 : List Loc), P H1 → H.size ≤ H1.size → (∀ q : Nat, q < H.size → ¬ A1 q → H1[q]? = H[q]?) → va_S A0 H0 H1 locs1 → W p l e R s m args below meth c H1 locs1 (cells + mc) (slots + ms) Q (F0 m (pc + 3) ls (.int r :: rest))) : W p l e R s m args below meth c H locs cells slots Q (F0 m pc ls st0) := by
  refine xgo hr hS hA hf (fun v H1 locs1 h h1 h2 h3 => ?_) (fun x H1 locs1 h => ?_)
  · obtain ⟨hv, hp⟩ := h
    cases hv
    exact kr H1 locs1 hp h1 h2 h3
  · exact absurd h.1 (by intro h; cases h)
theorem xgoL {r : Int64} {P : Heap → Prop} (hr : XRun p l e R s m args below meth c H locs cells slots mc ms (F0 m pc ls st0) rest (xQ (pL r P) A1 a) free) (hS : va_S A0 H0 H locs) (hA : ∀ q, q < H.size → A1 q → A0 q) (hf : ∀ q, free q → A0 q)
    (kr : ∀ (H1 : Heap) (locs1 : List Loc), P H1 → H.size ≤ H1.size → (∀ q : Nat, q < H.size → ¬ A1 q → H1[q]? = H[q]?) → va_S A0 H0 H1 locs1 → W p l e R s m args below meth c H1 locs1 (cells + mc) (slots + ms) Q (F0 m (pc + 3) ls (.long r :: rest))) : W p l e R s m args below meth c H locs cells slots Q (F0 m pc ls st0) := by
  refine xgo hr hS hA hf (fun v H1 locs1 h h1 h2 h3 => ?_) (fun x H1 locs1 h => ?_)
  · obtain ⟨hv, hp⟩ := h
    cases hv
    exact kr H1 locs1 hp h1 h2 h3
  · exact absurd h.1 (by intro h; cases h)
theorem xgoV {P : Heap → Prop} (hr : XRun p l e R s m args below meth c H locs cells slots mc ms (F0 m pc ls st0) rest (xQ (pV P) A1 a) free) (hS : va_S A0 H0 H locs) (hA : ∀ q, q < H.size → A1 q → A0 q) (hf : ∀ q, free q → A0 q)
    (kr : ∀ (H1 : Heap) (locs1 : List Loc), P H1 → H.size ≤ H1.size → (∀ q : Nat, q < H.size → ¬ A1 q → H1[q]? = H[q]?) → va_S A0 H0 H1 locs1 → W p l e R s m args below meth c H1 locs1 (cells + mc) (slots + ms) Q (F0 m (pc + 3) ls rest)) : W p l e R s m args below meth c H locs cells slots Q (F0 m pc ls st0) := by
  refine xgo hr hS hA hf (fun v H1 locs1 h h1 h2 h3 => ?_) (fun x H1 locs1 h => ?_)
  · obtain ⟨hv, hp⟩ := h
    cases hv
    exact kr H1 locs1 hp h1 h2 h3
  · exact absurd h.1 (by intro h; cases h)
theorem xgoE {P : Int32 → Heap → Prop} (hr : XRun p l e R s m args below meth c H locs cells slots mc ms (F0 m pc ls st0) rest (xQ (pE P) A1 a) free) (hS : va_S A0 H0 H locs) (hA : ∀ q, q < H.size → A1 q → A0 q) (hf : ∀ q, free q → A0 q)
    (kr : ∀ (r : Int32) (H1 : Heap) (locs1 : List Loc), P r H1 → H.size ≤ H1.size → (∀ q : Nat, q < H.size → ¬ A1 q → H1[q]? = H[q]?) → va_S A0 H0 H1 locs1 → W p l e R s m args below meth c H1 locs1 (cells + mc) (slots + ms) Q (F0 m (pc + 3) ls (.int r :: rest))) : W p l e R s m args below meth c H locs cells slots Q (F0 m pc ls st0) := by
  refine xgo hr hS hA hf (fun v H1 locs1 h h1 h2 h3 => ?_) (fun x H1 locs1 h => ?_)
  · obtain ⟨r, hv, hp⟩ := h
    cases hv
    exact kr r H1 locs1 hp h1 h2 h3
  · obtain ⟨r, hv, hp⟩ := h
    cases hv
/-- an int on the stack under another name -/
theorem xi_eq {x : Int32} (y : Int32) (h : x = y) (k : W p l e R s m args below meth c H locs cells slots Q (F0 m pc ls (.int y :: rest))) : W p l e R s m args below meth c H locs cells slots Q (F0 m pc ls (.int x :: rest)) := by rw [h]; exact k
theorem xl_eq {x : Int64} (y : Int64) (h : x = y) (k : W p l e R s m args below meth c H locs cells slots Q (F0 m pc ls (.long y :: rest))) : W p l e R s m args below meth c H locs cells slots Q (F0 m pc ls (.long x :: rest)) := by rw [h]; exact k
theorem xpc_eq {pc2 : Nat} (h : pc = pc2) (k : W p l e R s m args below meth c H locs cells slots Q (F0 m pc2 ls rest)) : W p l e R s m args below meth c H locs cells slots Q (F0 m pc ls rest) := by rw [h]; exact k
theorem xmq_of {Qc : Array Value → State → Outcome → State → Prop} {g : JFrame} (k : W p l e R s m args below meth c H locs cells slots (MQ below Qc a s mc ms free) g) : W p l e R s m args below meth c H locs cells slots (XMQ below Qc a s mc ms free) g := by
  intro T hT X
  obtain ⟨t, a1, o, h1, h2, h3, L, ⟨h4, h5, h6⟩, h7⟩ := k T hT X
  exact ⟨t, a1, o, h1, h2, h3, L, ⟨h5, h6⟩, h7⟩
variable {cc : ByteArray}
theorem xiret {v : Int32} {A : Nat → Prop} (hexec : p.tables.exec = Jvm.exec) (hb : c.code = cc) (hr : meth.sig.returnType = some .int) (hlocks : meth.locks = false) (hS : va_S A s.heap H locs) (hdg : decode cc pc = .ok (.ireturn, 1)) (hp : Post (.returned (some (.int v))) H) :
    W p l e R s m args below meth c H locs cells slots (XMQ below (xQ Post A) args s cells slots A) (F0 m pc ls [.int v]) :=
  xmq_of (W.iret hexec hb hr (fun t ht hW => ⟨by rw [ht]; exact hp, hS.F ht⟩) hS.2.2 hdg hlocks)
theorem xzret {v : Int32} {A : Nat → Prop} (hexec : p.tables.exec = Jvm.exec) (hb : c.code = cc) (hr : meth.sig.returnType = some .boolean) (hlocks : meth.locks = false) (hv : narrow .boolean (.int v) = .int v) (hS : va_S A s.heap H locs) (hdg : decode cc pc = .ok (.ireturn, 1)) (hp : Post (.returned (some (.int v))) H) :
    W p l e R s m args below meth c H locs cells slots (XMQ below (xQ Post A) args s cells slots A) (F0 m pc ls [.int v]) :=
  xmq_of (W.zret hexec hb hr hv (fun t ht hW => ⟨by rw [ht]; exact hp, hS.F ht⟩) hS.2.2 hdg hlocks)
theorem xlret {v : Int64} {A : Nat → Prop} (hexec : p.tables.exec = Jvm.exec) (hb : c.code = cc) (hr : meth.sig.returnType = some .long) (hlocks : meth.locks = false) (hS : va_S A s.heap H locs) (hdg : decode cc pc = .ok (.lreturn, 1)) (hp : Post (.returned (some (.long v))) H) :
    W p l e R s m args below meth c H locs cells slots (XMQ below (xQ Post A) args s cells slots A) (F0 m pc ls [.long v]) :=
  xmq_of (W.lret hexec hb hr (fun t ht hW => ⟨by rw [ht]; exact hp, hS.F ht⟩) hS.2.2 hdg hlocks)
theorem xvret {A : Nat → Prop} (hexec : p.tables.exec = Jvm.exec) (hb : c.code = cc) (hr : meth.sig.returnType = none) (hlocks : meth.locks = false) (hS : va_S A s.heap H locs) (hdg : decode cc pc = .ok (.return_, 1)) (hp : Post (.returned none) H) :
    W p l e R s m args below meth c H locs cells slots (XMQ below (xQ Post A) args s cells slots A) (F0 m pc ls []) :=
  xmq_of (W.vret hexec hb hr (fun t ht hW => ⟨by rw [ht]; exact hp, hS.F ht⟩) hS.2.2 hdg hlocks)
/-- out of a method without handlers -/
theorem wt_out {A : Nat → Prop} {x : Addr} (hno : c.exceptionTable.isEmpty = true) (hlocks : meth.locks = false) (hS : va_S A s.heap H locs) (hp : Post (.threw x) H) :
    WT p l e R s m args below meth c H locs cells slots (XMQ below (xQ Post A) args s cells slots A) (F0 m pc ls rest) x := by
  intro T hT X
  obtain ⟨h1, h2, h3, h4, h5⟩ := X.leaveThrown x (g := F0 m pc ls rest) rfl rfl rfl (covers_of_empty hno _) hlocks
  exact ⟨_, h1, .threw x, h2, h3, ⟨by show Post _ T.heap; rw [hT]; exact hp, hS.F hT⟩, locs, ⟨h4, h5⟩, hS.2.2⟩
theorem WT.widen {g : JFrame} {x : Addr} {k n : Nat} (h1 : cells ≤ k) (h2 : slots ≤ n) (kk : WT p l e R s m args below meth c H locs k n Q g x) : WT p l e R s m args below meth c H locs cells slots Q g x := fun T hT X => kk T hT (stand_widen X h1 h2)
end XC
end
section
/-! A THROWN EXCEPTION INTO A HANDLER whose class may not be resolved yet; an exception made and thrown; what is carried for that -/
set_option maxRecDepth 100000
def xfinds (e : Env) (s : State) (f : JFrame) (a : Addr) (h : Handler) (vm' : Vm) : Prop :=
  ∀ (Q : Handler → Pre) (E : CtlPost) (d : Bool) (acts : List Action), wp (findHandler f a) Q E e d acts s ↔ Q h d acts (s.setVm vm')
theorem xh_row {Q : Handler → Pre} {E : CtlPost} {e : Env} {d : Bool} {acts : List Action} {s : State} {f : JFrame} {a : Addr} {x : ExceptionTableEntry} {t : List ExceptionTableEntry} {c : ClassId} {cell : Cell} (hx : covers x f.pc = true) (h0 : x.catchType ≠ 0)
    (hl : s.vm.ClassLinks e.platform f.method.cls x.catchType c) (hcell : s.heap[a]? = some cell) (hobj : ∀ k, cell.vm ≠ .statics k) (hk : ∃ k, s.vm.classes[cell.cls]? = some k) (hc : ∃ k, s.vm.classes[c]? = some k) :
    wp (findHandler.go f a (x :: t)) Q E e d acts s ↔ if s.vm.assignable cell.cls c = true then Q (.found x.handlerPc) d acts (s.setVm (s.vm.noted f.method.cls x.catchType (.cls c))) else wp (findHandler.go f a t) Q E e d acts (s.setVm (s.vm.noted f.method.cls x.catchType (.cls c))) := by
  simp only [covers] at hx
  obtain ⟨ha, ht⟩ := (resolveClass_links e.toSetting hl).op (op := VmOp.resolveClass f.method.cls x.catchType) rfl
  have hal : s.vm.Alike (s.vm.noted f.method.cls x.catchType (.cls c)) := (Vm.Alike.refl s.vm).noted _ _ _
  obtain ⟨k1, hk1⟩ := hk
  obtain ⟨k2, hk2⟩ := hc
  obtain ⟨k1', hk1', -⟩ := hal.2.2 _ _ hk1
  obtain ⟨k2', hk2', -⟩ := hal.2.2 _ _ hk2
  cases hfit : s.vm.assignable cell.cls c with
  | false =>
    have hfit' : (s.vm.noted f.method.cls x.catchType (.cls c)).assignable cell.cls c = false := by rw [hal.assignable]; exact hfit
    simp [findHandler.go, hx, h0, ha, ht, hcell, hobj, hk1', hk2', hfit', VmOp.dirties, VmOp.acts]
  | true =>
    have hfit' : (s.vm.noted f.method.cls x.catchType (.cls c)).assignable cell.cls c = true := by rw [hal.assignable]; exact hfit
    simp [findHandler.go, hx, h0, ha, ht, hcell, hobj, hk1', hk2', hfit', VmOp.dirties, VmOp.acts]
theorem xh_catch {e : Env} {s : State} {a : Addr} {f : JFrame} {r : List Frame} {pc : Nat} {vm' : Vm} (hfind : xfinds e s f a (.found pc) vm') :
    (stepThrowing e s a (.java f :: r)).Is ((s.setVm vm').setFrames (.java { f with pc := pc, stack := [.ref a] } :: r)) [] := by
  simp only [stepThrowing, searchFrame, vmDo]
  generalize hr : Sem.go _ e false [] s = res
  obtain ⟨as, rfl, ha⟩ := Sem.eq_ok_of hr (a := Handler.found pc) (s' := s.setVm vm') (acts' := []) (by simp [hfind _ _ _ _])
  exact ⟨rfl, ha⟩
theorem xh_caught {tb : Tables} {e : Env} {s target : State} {g : JFrame} {c : Code} {below : List Frame} {a : Addr} (h : At s g.method c below) {pc : Nat} {vm' : Vm} (hfind : xfinds e ((s.setTop g).pushFrame (.throwing a)) g a (.found pc) vm')
    (hrest : Steps tb e below ((s.setVm vm').setTop { g with pc := pc, stack := [.ref a] }) target) : Steps tb e below ((s.setTop g).pushFrame (.throwing a)) target := by
  obtain ⟨hgo, hw⟩ := h.throwing a
  refine Steps.head hgo hw ?_
  rw [stepThread_throwing (frames_entered h.top _), (xh_catch (s := (s.setTop g).pushFrame (.throwing a)) hfind).1]
  obtain ⟨g₀, hg⟩ := Option.isSome_iff_exists.mp h.top
  obtain ⟨r, hr⟩ := State.topJava?_eq_some.mp hg
  have hr' : (s.setVm vm').frames = .java g₀ :: r := hr
  rw [State.setTop_of_frames _ hr'] at hrest
  show Steps tb e below ((((s.setTop g).pushFrame (.throwing a)).setFrames (.java { g with pc := pc, stack := [.ref a] } :: s.frames.tail)).setVm vm') target
  rw [State.pushFrame, State.setFrames_setFrames, State.setTop_of_frames _ hr, State.setFrames_setFrames, hr]
  exact hrest
section XD
variable {p : Program} {l : Launch} {e : Env} {R : Room} {s : State} {m : MethodId} {args : Array Value} {below : List Frame} {meth : Method} {c : Code} {H : Heap} {locs : List Loc} {cells slots : Nat} {Q : State → Prop}
variable {pc : Nat} {ls : Array Slot} {rest : List Value}
theorem wt_catchA {own name : String} {x : ExceptionTableEntry} {xs : List ExceptionTableEntry} (htab : c.exceptionTable.toList = x :: xs) (hown : s.vm.findClass own = some m.cls) (hx : covers x pc = true) (h0 : x.catchType ≠ 0)
    (hlink : (Cond.classLink own x.catchType name).before args s = true) {cT : ClassId} (hcT : s.vm.findClass name = some cT) {a : Addr} {ce : Cell} (hce : H[a]? = some ce) (hvm : ce.vm = .none) (hfit : s.vm.assignable ce.cls cT = true)
    (k : W p l e R s m args below meth c H locs cells slots Q (F0 m x.handlerPc ls [.ref a])) : WT p l e R s m args below meth c H locs cells slots Q (F0 m pc ls rest) a := by
  intro T hT X
  have hpl : e.platform.magicAccessors = ({} : Platform).magicAccessors := by rw [X.admits.platform]
  obtain ⟨c', hc', hcl⟩ := Cond.classLink_spec hown hlink e.platform hpl
  cases hcT.symm.trans hc'
  obtain ⟨dk, _, _, kt, hd, _, _, _, _, hkt, _, hopen⟩ := hcl.here
  obtain ⟨k0, hk0⟩ := Vm.classAt_of_assignable hfit ⟨kt, hkt⟩
  obtain ⟨k0', hk0', -⟩ := X.warmed.alike.2.2 _ _ hk0
  obtain ⟨kt', hkt', -⟩ := X.warmed.alike.2.2 _ _ hkt
  have hW' : s.WarmedH (T.vm.noted m.cls x.catchType (.cls cT)) := X.warmed.noted hd hopen (State.rightAt_cls hcl)
  have hcell : T.heap[a]? = some ce := by rw [hT]; exact hce
  have hf : xfinds e ((T.setTop (F0 m pc ls rest)).pushFrame (.throwing a)) (F0 m pc ls rest) a (.found x.handlerPc) (T.vm.noted m.cls x.catchType (.cls cT)) := by
    intro Q E d acts
    have hm : ((T.setTop (F0 m pc ls rest)).pushFrame (.throwing a)).vm.method? (F0 m pc ls rest).method = some meth := X.method'
    rw [_root_.Jvm.W.findHandler_eq hm X.code, htab]
    refine (xh_row (e := e) (s := (T.setTop (F0 m pc ls rest)).pushFrame (.throwing a)) (f := F0 m pc ls rest) (c := cT) (cell := ce) hx h0 (X.warmed.classLinks hcl) hcell (fun k h => by rw [hvm] at h; cases h) ⟨k0', hk0'⟩ ⟨kt', hkt'⟩).trans ?_
    rw [if_pos (by show T.vm.assignable ce.cls cT = true; rw [X.warmed.alike.assignable]; exact hfit)]
    exact Iff.rfl
  obtain ⟨t, a1, b1⟩ := k (T.setVm (T.vm.noted m.cls x.catchType (.cls cT))) hT (X.noted hW')
  exact ⟨t, xh_caught (c := c) X.here hf a1, b1⟩
theorem wt_catchB {own name1 name : String} {x1 x : ExceptionTableEntry} {xs : List ExceptionTableEntry} (htab : c.exceptionTable.toList = x1 :: x :: xs) (hown : s.vm.findClass own = some m.cls) (hx1 : covers x1 pc = true) (h01 : x1.catchType ≠ 0) (hx : covers x pc = true) (h0 : x.catchType ≠ 0)
    (hlink1 : (Cond.classLink own x1.catchType name1).before args s = true) {cT1 : ClassId} (hcT1 : s.vm.findClass name1 = some cT1)
    (hlink : (Cond.classLink own x.catchType name).before args s = true) {cT : ClassId} (hcT : s.vm.findClass name = some cT) {a : Addr} {ce : Cell} (hce : H[a]? = some ce) (hvm : ce.vm = .none) (hno : s.vm.assignable ce.cls cT1 = false) (hfit : s.vm.assignable ce.cls cT = true)
    (k : W p l e R s m args below meth c H locs cells slots Q (F0 m x.handlerPc ls [.ref a])) : WT p l e R s m args below meth c H locs cells slots Q (F0 m pc ls rest) a := by
  intro T hT X
  have hpl : e.platform.magicAccessors = ({} : Platform).magicAccessors := by rw [X.admits.platform]
  obtain ⟨c1', hc1', hcl1⟩ := Cond.classLink_spec hown hlink1 e.platform hpl
  cases hcT1.symm.trans hc1'
  obtain ⟨c', hc', hcl⟩ := Cond.classLink_spec hown hlink e.platform hpl
  cases hcT.symm.trans hc'
  obtain ⟨dk1, _, _, kt1, hd1, _, _, _, _, hkt1, _, hopen1⟩ := hcl1.here
  obtain ⟨dk, _, _, kt, hd, _, _, _, _, hkt, _, hopen⟩ := hcl.here
  obtain ⟨k0, hk0⟩ := Vm.classAt_of_assignable hfit ⟨kt, hkt⟩
  obtain ⟨k0', hk0', -⟩ := X.warmed.alike.2.2 _ _ hk0
  obtain ⟨kt1', hkt1', -⟩ := X.warmed.alike.2.2 _ _ hkt1
  have hW1 : s.WarmedH (T.vm.noted m.cls x1.catchType (.cls cT1)) := X.warmed.noted hd1 hopen1 (State.rightAt_cls hcl1)
  obtain ⟨k0'', hk0'', -⟩ := hW1.alike.2.2 _ _ hk0
  obtain ⟨kt'', hkt'', -⟩ := hW1.alike.2.2 _ _ hkt
  have hW' : s.WarmedH ((T.vm.noted m.cls x1.catchType (.cls cT1)).noted m.cls x.catchType (.cls cT)) := hW1.noted hd hopen (State.rightAt_cls hcl)
  have hcell : T.heap[a]? = some ce := by rw [hT]; exact hce
  have hf : xfinds e ((T.setTop (F0 m pc ls rest)).pushFrame (.throwing a)) (F0 m pc ls rest) a (.found x.handlerPc) ((T.vm.noted m.cls x1.catchType (.cls cT1)).noted m.cls x.catchType (.cls cT)) := by
    intro Q E d acts
    have hm : ((T.setTop (F0 m pc ls rest)).pushFrame (.throwing a)).vm.method? (F0 m pc ls rest).method = some meth := X.method'
    rw [_root_.Jvm.W.findHandler_eq hm X.code, htab]
    refine (xh_row (e := e) (s := (T.setTop (F0 m pc ls rest)).pushFrame (.throwing a)) (f := F0 m pc ls rest) (c := cT1) (cell := ce) hx1 h01 (X.warmed.classLinks hcl1) hcell (fun k h => by rw [hvm] at h; cases h) ⟨k0', hk0'⟩ ⟨kt1', hkt1'⟩).trans ?_
    rw [if_neg (by show ¬ T.vm.assignable ce.cls cT1 = true; rw [X.warmed.alike.assignable, hno]; decide)]
    refine (xh_row (e := e) (s := ((T.setTop (F0 m pc ls rest)).pushFrame (.throwing a)).setVm (T.vm.noted m.cls x1.catchType (.cls cT1))) (f := F0 m pc ls rest) (c := cT) (cell := ce) hx h0 (hW1.classLinks hcl) hcell (fun k h => by rw [hvm] at h; cases h) ⟨k0'', hk0''⟩ ⟨kt'', hkt''⟩).trans ?_
    rw [if_pos (by show (T.vm.noted m.cls x1.catchType (.cls cT1)).assignable ce.cls cT = true; rw [hW1.alike.assignable]; exact hfit)]
    exact Iff.rfl
  obtain ⟨t, a1, b1⟩ := k (T.setVm ((T.vm.noted m.cls x1.catchType (.cls cT1)).noted m.cls x.catchType (.cls cT))) hT (X.noted hW')
  exact ⟨t, xh_caught (c := c) X.here hf a1, b1⟩
variable {cc : ByteArray}
/-- new X(); throw it: the method's end -/
theorem x_throw {own cls : String} {names : List String} {inx ic : Nat} {Post : Outcome → Heap → Prop} {A : Nat → Prop} (hexec : p.tables.exec = Jvm.exec) (hb : c.code = cc) (hfl : l.flags = flags0) (hown : s.vm.findClass own = some m.cls) (hcls : Bundle.fit cls = true) (hnames : ∀ n ∈ names, Bundle.fit n = true)
    (hat : ∀ a ∈ Bundle.ownAtoms0 own ic cls names, a.before args s = true) (hclink : (Cond.classLink own inx cls).before args s = true) (hini : (Cond.initialized cls).before args s = true)
    (hd0 : decode cc pc = .ok (.new inx, 3)) (hd3 : decode cc (pc + 3) = .ok (.dup, 1)) (hd4 : decode cc (pc + 4) = .ok (.invokespecial ic, 3)) (hd7 : decode cc (pc + 7) = .ok (.athrow, 1))
    (hno : c.exceptionTable.isEmpty = true) (hlocks : meth.locks = false) (hls : ls.size = c.maxLocals) (hRf : names.length + 3 < R.frames) (hRl : 1 + (13 * (names.length + 1) + 41) ≤ R.locals) (hRc : 1 ≤ R.cells) (hRs : 6 ≤ R.slots)
    (hp : ∀ (a : Addr) (H1 : Heap) (ce : Cell), H1[a]? = some ce → ce.vm = .none → s.vm.findClass cls = some ce.cls → Post (.threw a) H1) :
    W p l e R s m args below meth c s.heap [] 0 0 (XMQ below (xQ Post A) args s 1 6 A) (F0 m pc ls []) := by
  refine W.newc hexec hb hown hclink (hat (.instantiable cls 6) (by simp [Bundle.ownAtoms0])) hini rfl hd0 (by omega) (by omega) (fun cC kC h1 h2 h3 h4 => ?_)
  show W p l e R s m args below meth c (s.heap.push _) [] (0 + 1) (0 + 6) _ (F0 m (pc + 3) ls [.ref s.heap.size])
  refine lv_dup hexec hb hd3 rfl ?_
  intro T hT X
  have hcellA : T.heap[s.heap.size]? = some (freshCell cC kC) := by rw [hT]; simp
  obtain ⟨U, hsteps, hrun, hend, hW, hsame, ce, hce, K⟩ := X.ctorThrow0 hexec (Launch.traces_off hfl X.admits) (own := own) (cls := cls) (names := names) (ic := ic) hown hcls hnames hat (fun y hy => by cases hy) h1 h2 hcellA (Nat.le_refl _)
    (g := F0 m (pc + 3 + 1) ls [.ref s.heap.size, .ref s.heap.size]) rfl hls rfl rfl (rest := []) rfl (by rw [hb]; exact hd4) (by rw [hb]; exact hd7) (covers_of_empty hno _) hRf (by simpa [Value.category] using hRl) hlocks
  refine ⟨U, hsteps, .threw s.heap.size, hrun, hend, ⟨hp _ _ ce hce K.vm K.cls, hsame.2.1, fun q hq _ => ?_⟩, [], ⟨hW, hsame⟩, fun q h => by cases h⟩
  obtain ⟨cell, hcell⟩ : ∃ cell, s.heap[q]? = some cell := ⟨_, Array.getElem?_eq_getElem hq⟩
  rw [hcell]
  exact hsame.kept_nil hcell
end XD
/-- the words for making an exception that hold on no tables alone -/
def exT : List Cond := [.declares ⟨"java/lang/RuntimeException", "<init>", "()V"⟩, .declares ⟨"java/lang/Exception", "<init>", "()V"⟩, .declares ⟨"java/lang/Throwable", "<init>", "()V"⟩, .castable "java/lang/IllegalArgumentException" "java/lang/IllegalArgumentException", .castable "java/lang/IllegalStateException" "java/lang/IllegalStateException"]
def exOK (U : State) : Prop := (∀ w ∈ exT, w.before #[] U = true) ∧ ((Cond.laysStatic "java/lang/Throwable" "UNASSIGNED_STACK" "[Ljava/lang/StackTraceElement;").before #[] U = true ∧ (Cond.laysStatic "java/lang/Throwable" "SUPPRESSED_SENTINEL" "Ljava/util/List;").before #[] U = true) ∧ (Cond.isRef (.static "java/lang/Throwable" "UNASSIGNED_STACK" "[Ljava/lang/StackTraceElement;")).before #[] U = true ∧ (Cond.isRef (.static "java/lang/Throwable" "SUPPRESSED_SENTINEL" "Ljava/util/List;")).before #[] U = true
/-- the cells of statics stay -/
def exKept (H H1 : Heap) : Prop := ∀ (q : Nat) (cell : Cell), H[q]? = some cell → cell.vm.isStatics = true → H1[q]? = some cell
theorem ex_lays {C n d : String} {u U : State} (hvm : u.vm.Alike U.vm) (hk : exKept u.heap U.heap) (h : (Cond.laysStatic C n d).before #[] u = true) : (Cond.laysStatic C n d).before #[] U = true := by
  obtain ⟨c, k, i, f, a, cell, hc, hi, hst, ha, hcell, hs, hcls, hlt, hty⟩ := Cond.laysStatic_spec h
  obtain ⟨k', hi', he⟩ := State.fieldFound?_setVm hvm hi
  have hi2 : U.fieldFound? C n d = some (c, k', i, f) := hi'
  have hc2 : U.vm.findClass C = some c := by rw [hvm.findClass]; exact hc
  have ha2 : k'.statics = some a := by rw [he]; exact ha
  have hty2 : k'.staticTypes[f.slot]? = some f.type := by rw [he]; exact hty
  have hcell2 := hk a cell hcell hs
  simp [Cond.before, Cond.holds, Cond.value, hc2, hi2, ha2, hcell2, hst, hs, hcls, hlt, hty2]
theorem ex_ref {C n d : String} {u U : State} (hvm : u.vm.Alike U.vm) (hk : exKept u.heap U.heap) (hl : (Cond.laysStatic C n d).before #[] u = true) (h : (Cond.isRef (.static C n d)).before #[] u = true) : (Cond.isRef (.static C n d)).before #[] U = true := by
  obtain ⟨c, k, i, f, a, cell, hc, hi, hst, ha, hcell, hs, hcls, hlt, hty⟩ := Cond.laysStatic_spec hl
  obtain ⟨k', hi', he⟩ := State.fieldFound?_setVm hvm hi
  have hi2 : U.fieldFound? C n d = some (c, k', i, f) := hi'
  have ha2 : k'.statics = some a := by rw [he]; exact ha
  have hcell2 := hk a cell hcell hs
  have e1 : (Term.static C n d).eval #[] u none [] u = cell.slots[f.slot]? := by simp [Term.eval, State.fieldNamed?, hi, hst, ha, hcell, hs]
  have e2 : (Term.static C n d).eval #[] U none [] U = cell.slots[f.slot]? := by simp [Term.eval, State.fieldNamed?, hi2, hst, ha2, hcell2, hs]
  simp only [Cond.before, Cond.holds, Cond.value, e1, e2] at h ⊢
  exact h
theorem exOK.moved {u U : State} (hW : u.WarmedH U.vm) (hk : exKept u.heap U.heap) (h : exOK u) : exOK U := by
  obtain ⟨h1, ⟨h2, h3⟩, h4, h5⟩ := h
  refine ⟨fun w hw => ?_, ⟨ex_lays hW.alike hk h2, ex_lays hW.alike hk h3⟩, ex_ref hW.alike hk h2 h4, ex_ref hW.alike hk h3 h5⟩
  have hf : w.keepsFace = true := List.all_eq_true.mp (show exT.all Cond.keepsFace = true by rfl) w hw
  have ho : w.onTables = true := List.all_eq_true.mp (show exT.all Cond.onTables = true by rfl) w hw
  exact va_tabs ho (rfl : (u.setVm U.vm).vm = U.vm) (Cond.before_shiftedFace (State.Shifted.of_warmed hW) w hf (h1 w hw))
/-- the words of an exception's making, at a state -/
theorem ex_words {own : String} {ic : Nat} {X : String} {names : List String} {args : Array Value} {s : State} (hts : ∀ w ∈ lw_all, w.before args s = true) (h : exOK s) (hin : ∀ a ∈ Bundle.ownAtoms0 own ic X names, a ∈ lw_all ∨ a ∈ exT ∨ a = (Cond.laysStatic "java/lang/Throwable" "UNASSIGNED_STACK" "[Ljava/lang/StackTraceElement;") ∨ a = (Cond.laysStatic "java/lang/Throwable" "SUPPRESSED_SENTINEL" "Ljava/util/List;") ∨ a = (Cond.isRef (.static "java/lang/Throwable" "UNASSIGNED_STACK" "[Ljava/lang/StackTraceElement;")) ∨ a = (Cond.isRef (.static "java/lang/Throwable" "SUPPRESSED_SENTINEL" "Ljava/util/List;"))) : ∀ a ∈ Bundle.ownAtoms0 own ic X names, a.before args s = true := by
  obtain ⟨h1, ⟨h2, h3⟩, h4, h5⟩ := h
  intro a ha
  rcases hin a ha with q | q | q | q | q | q
  · exact hts a q
  · exact va_any (List.all_eq_true.mp (show exT.all Cond.onTables = true by rfl) a q) (h1 a q)
  · rw [q]; exact h2
  · rw [q]; exact h3
  · rw [q]; exact h4
  · rw [q]; exact h5
def upE : List String := ["java/lang/RuntimeException", "java/lang/Exception"]
theorem ex_in1 : ∀ a ∈ Bundle.ownAtoms0 "ProducerBook" 27 "java/lang/IllegalArgumentException" upE, a ∈ lw_all ∨ a ∈ exT ∨ a = (Cond.laysStatic "java/lang/Throwable" "UNASSIGNED_STACK" "[Ljava/lang/StackTraceElement;") ∨ a = (Cond.laysStatic "java/lang/Throwable" "SUPPRESSED_SENTINEL" "Ljava/util/List;") ∨ a = (Cond.isRef (.static "java/lang/Throwable" "UNASSIGNED_STACK" "[Ljava/lang/StackTraceElement;")) ∨ a = (Cond.isRef (.static "java/lang/Throwable" "SUPPRESSED_SENTINEL" "Ljava/util/List;")) := by decide +kernel
theorem ex_in2 : ∀ a ∈ Bundle.ownAtoms0 "ProducerBook" 30 "java/lang/IllegalStateException" upE, a ∈ lw_all ∨ a ∈ exT ∨ a = (Cond.laysStatic "java/lang/Throwable" "UNASSIGNED_STACK" "[Ljava/lang/StackTraceElement;") ∨ a = (Cond.laysStatic "java/lang/Throwable" "SUPPRESSED_SENTINEL" "Ljava/util/List;") ∨ a = (Cond.isRef (.static "java/lang/Throwable" "UNASSIGNED_STACK" "[Ljava/lang/StackTraceElement;")) ∨ a = (Cond.isRef (.static "java/lang/Throwable" "SUPPRESSED_SENTINEL" "Ljava/util/List;")) := by decide +kernel
end
section
/-! THE WORLDS: the book's 13 cells, the model's 6; array rows at an index that is a natural number -/
set_option maxRecDepth 100000
abbrev YT : Type := va_G × (ClassId × ClassId × ClassId × ClassId) × (ClassId × ClassId)
abbrev yI (Y : YT) : ClassId := Y.2.1.1
abbrev yJ (Y : YT) : ClassId := Y.2.1.2.1
abbrev yS (Y : YT) : ClassId := Y.2.1.2.2.1
abbrev yZ (Y : YT) : ClassId := Y.2.1.2.2.2
abbrev yTys (Y : YT) : List (ClassId × FieldType) := [(yI Y, .int), (yJ Y, .long), (yS Y, .short), (yZ Y, .boolean)]
abbrev vwCl : List vw_C := [(RX1, TX1, 2), (RX2, TX2, 8), (RX3, TX3, 6), (RX4, TX4, 8)]
abbrev iaeN : String := "java/lang/IllegalArgumentException"
abbrev iseN : String := "java/lang/IllegalStateException"
def YK (Y : YT) (U : State) : Prop := va_K Y.1 vwCl (yTys Y) U ∧ (U.vm.findClass iaeN = some Y.2.2.1 ∧ U.vm.findClass iseN = some Y.2.2.2) ∧ U.vm.assignable Y.2.2.1 Y.2.2.1 = true ∧ U.vm.assignable Y.2.2.2 Y.2.2.2 = true ∧ U.vm.assignable Y.2.2.2 Y.2.2.1 = false
theorem YK.moved {Y : YT} {u U : State} (hvm : u.vm.Alike U.vm) (h : YK Y u) : YK Y U := by
  obtain ⟨h1, ⟨h2, h3⟩, h4, h5, h6⟩ := h
  exact ⟨va_K.moved hvm h1, ⟨by rw [hvm.findClass]; exact h2, by rw [hvm.findClass]; exact h3⟩, by rw [hvm.assignable]; exact h4, by rw [hvm.assignable]; exact h5, by rw [hvm.assignable]; exact h6⟩
/-- the log: ((how many, end), bases, producers, epochs, sequences, lasts) -/
abbrev Lg : Type := (Nat × Int32) × (Nat → Int32) × (Nat → Int64) × (Nat → Int32) × (Nat → Int32) × (Nat → Int32)
abbrev gN (L : Lg) : Nat := L.1.1
abbrev gE (L : Lg) : Int32 := L.1.2
abbrev gB (L : Lg) : Nat → Int32 := L.2.1
abbrev gP (L : Lg) : Nat → Int64 := L.2.2.1
abbrev gX (L : Lg) : Nat → Int32 := L.2.2.2.1
abbrev gS (L : Lg) : Nat → Int32 := L.2.2.2.2.1
abbrev gL (L : Lg) : Nat → Int32 := L.2.2.2.2.2
/-- the pages: (how many, known, table, owners, latest, written) -/
abbrev Pg : Type := Nat × (Nat → Int32) × (Nat → Int32) × (Nat → Int64) × (Nat → Int32) × (Nat → Int32)
abbrev pN (P : Pg) : Nat := P.1
abbrev pK (P : Pg) : Nat → Int32 := P.2.1
abbrev pT (P : Pg) : Nat → Int32 := P.2.2.1
abbrev pO (P : Pg) : Nat → Int64 := P.2.2.2.1
abbrev pA (P : Pg) : Nat → Int32 := P.2.2.2.2.1
abbrev pW (P : Pg) : Nat → Int32 := P.2.2.2.2.2
def bk (Y : YT) (h : Nat → Nat) (L : Lg) (P : Pg) : va_W :=
  [(h 0, .inr (0, [.ref (h 1), .ref (h 2)])),
   (h 1, .inr (1, [.ref (h 3), .ref (h 4), .ref (h 5), .ref (h 6), .ref (h 7), .ref (h 8), .int (nI (gN L)), .int (gE L)])),
   (h 2, .inr (2, [.ref (h 1), .ref (h 9), .ref (h 10), .ref (h 11), .ref (h 12), .int (nI (pN P))])),
   (h 3, .inl (yI Y, 2000, .inl (gB L))),
   (h 4, .inl (yJ Y, 2000, .inr (.inl (gP L)))),
   (h 5, .inl (yS Y, 2000, .inl (gX L))),
   (h 6, .inl (yI Y, 2000, .inl (gS L))),
   (h 7, .inl (yS Y, 2000, .inl (gL L))),
   (h 8, .inl (yZ Y, 2000, .inl (pK P))),
   (h 9, .inl (yS Y, 4096, .inl (pT P))),
   (h 10, .inl (yJ Y, 2000, .inr (.inl (pO P)))),
   (h 11, .inl (yS Y, 10000, .inl (pA P))),
   (h 12, .inl (yI Y, 2000, .inl (pW P)))]
def md (Y : YT) (h : Nat → Nat) (L : Lg) (code : Int32) : va_W :=
  [(h 0, .inr (3, [.int code, .int (nI (gN L)), .int (gE L), .ref (h 1), .ref (h 2), .ref (h 3), .ref (h 4), .ref (h 5)])),
   (h 1, .inl (yI Y, 2000, .inl (gB L))),
   (h 2, .inl (yJ Y, 2000, .inr (.inl (gP L)))),
   (h 3, .inl (yI Y, 2000, .inl (gX L))),
   (h 4, .inl (yI Y, 2000, .inl (gS L))),
   (h 5, .inl (yI Y, 2000, .inl (gL L)))]
abbrev bH (Y : YT) (h : Nat → Nat) (L : Lg) (P : Pg) (H : Heap) : Prop := va_P Y.1 vwCl (bk Y h L P) H
abbrev mH (Y : YT) (h : Nat → Nat) (L : Lg) (code : Int32) (H : Heap) : Prop := va_P Y.1 vwCl (md Y h L code) H
/-- of N addresses h 0 .. no two are one; which cells may change -/
def aD (N : Nat) (h : Nat → Nat) : Prop := ∀ i j, i < N → j < N → h i = h j → i = j
def aA (N : Nat) (h : Nat → Nat) (sz q : Nat) : Prop := (∃ i, i < N ∧ q = h i) ∨ sz ≤ q
theorem aA.le {N : Nat} {h : Nat → Nat} {sz sz' : Nat} (hs : sz ≤ sz') {q : Nat} (H : aA N h sz' q) : aA N h sz q := by
  rcases H with H | H
  · exact Or.inl H
  · exact Or.inr (Nat.le_trans hs H)
theorem at_of {N : Nat} {h : Nat → Nat} {ws : va_W} (hm : ws.map (fun q => q.1) = (List.range N).map h) {i : Nat} {q : Nat × va_E} (hq : ws[i]? = some q) : i < N ∧ q.1 = h i := by
  have h1 : (ws.map (fun q => q.1))[i]? = some q.1 := by rw [List.getElem?_map, hq]; rfl
  rw [hm, List.getElem?_map] at h1
  by_cases hi : i < N
  · rw [List.getElem?_range hi] at h1
    exact ⟨hi, (Option.some.inj h1).symm⟩
  · rw [List.getElem?_eq_none (by simpa using hi)] at h1
    cases h1
theorem D_of {N : Nat} {h : Nat → Nat} {ws : va_W} {sz : Nat} (hm : ws.map (fun q => q.1) = (List.range N).map h) (hh : aD N h) : va_D (aA N h sz) ws := by
  refine ⟨fun i j p q hi hj hpq => ?_, fun k q hk => ?_⟩
  · obtain ⟨h1, h2⟩ := at_of hm hi
    obtain ⟨h3, h4⟩ := at_of hm hj
    exact hh i j h1 h3 (by rw [← h2, ← h4]; exact hpq)
  · obtain ⟨h1, h2⟩ := at_of hm hk
    exact Or.inl ⟨k, h1, h2⟩
theorem bk_D {Y : YT} {h : Nat → Nat} {L : Lg} {P : Pg} {sz : Nat} (hh : aD 13 h) : va_D (aA 13 h sz) (bk Y h L P) := D_of rfl hh
theorem md_D {Y : YT} {h : Nat → Nat} {L : Lg} {code : Int32} {sz : Nat} (hh : aD 6 h) : va_D (aA 6 h sz) (md Y h L code) := D_of rfl hh
/-- a world's cells below, all of them plain: the cells of statics aren't among them -/
theorem at_plain {D : va_G} {cl : List vw_C} {q : Nat × va_E} {H : Heap} (h : va_at D cl q H) : ∃ cell, H[q.1]? = some cell ∧ cell.vm.isStatics = false := by
  obtain ⟨a, e⟩ := q
  cases e with
  | inl x =>
    refine ⟨_, h, ?_⟩
    obtain ⟨cA, n, f | f | f | f | f⟩ := x <;> rfl
  | inr o =>
    obtain ⟨r, h1, cell, h2, -, h3, -⟩ := h
    exact ⟨cell, h2, by rw [h3]; rfl⟩
theorem kept_of {D : va_G} {cl : List vw_C} {ws : va_W} {N : Nat} {h : Nat → Nat} {H H1 : Heap} {locs : List Loc} (hm : ws.map (fun q => q.1) = (List.range N).map h) (hP : va_P D cl ws H) (hS : va_S (aA N h H.size) H H1 locs) : exKept H H1 := by
  intro q cell hq hs
  have hl : q < H.size := (Array.getElem?_eq_some_iff.mp hq).1
  rw [hS.2.1 q hl ?_]
  · exact hq
  · intro hA
    rcases hA with ⟨i, hi, e⟩ | hA
    · have hlen : ws.length = N := by
        have := congrArg List.length hm
        simpa using this
      obtain ⟨x, hx⟩ : ∃ x, ws[i]? = some x := ⟨_, List.getElem?_eq_getElem (by omega)⟩
      obtain ⟨-, h2⟩ := at_of hm hx
      obtain ⟨cell2, h3, h4⟩ := at_plain (hP i x hx)
      rw [h2, ← e, hq] at h3
      cases h3
      rw [hs] at h4
      cases h4
    · omega
theorem bk_kept {Y : YT} {h : Nat → Nat} {L : Lg} {P : Pg} {H H1 : Heap} {locs : List Loc} (hP : bH Y h L P H) (hS : va_S (aA 13 h H.size) H H1 locs) : exKept H H1 := kept_of rfl hP hS
/-- a world that the callee doesn't touch -/
theorem P_off {D : va_G} {cl : List vw_C} {ws : va_W} {A : Nat → Prop} {H H1 : Heap} (hP : va_P D cl ws H) (hk : ∀ q : Nat, q < H.size → ¬ A q → H1[q]? = H[q]?) (ho : ∀ (k : Nat) (q : Nat × va_E), ws[k]? = some q → ¬ A q.1) : va_P D cl ws H1 :=
  hP.kept fun k q hq => hk q.1 (hP k q hq).lt (ho k q hq)
/-- the start of a method of the book, of the model -/
def bPre (Y : YT) (h : Nat → Nat) (L : Lg) (P : Pg) (sz : Nat) (av : List Value) : Array Value → State → Prop := va_Pc av (fun U => U.heap.size = sz ∧ bH Y h L P U.heap ∧ YK Y U)
theorem bPre_bl {Y : YT} {h : Nat → Nat} {L : Lg} {P : Pg} {sz : Nat} {av : List Value} : FrameBlind (bPre Y h L P sz av) := fun a U g mk q => by
  obtain ⟨q0, q1, qP, qK⟩ := q
  exact ⟨q0, q1, qP, YK.moved (u := U) (U := U.calling g mk a) (Vm.Alike.refl U.vm) qK⟩
def bPreX (Y : YT) (h : Nat → Nat) (L : Lg) (P : Pg) (sz : Nat) (av : List Value) : Array Value → State → Prop := va_Pc av (fun U => U.heap.size = sz ∧ bH Y h L P U.heap ∧ YK Y U ∧ exOK U)
theorem ex_calling {U : State} {g : JFrame} {mk : MethodId} {a : Array Value} (h : exOK U) : exOK (U.calling g mk a) := h.moved (State.WarmedH.refl U) (fun _ _ h _ => h)
theorem bPreX_bl {Y : YT} {h : Nat → Nat} {L : Lg} {P : Pg} {sz : Nat} {av : List Value} : FrameBlind (bPreX Y h L P sz av) := fun a U g mk q => by
  obtain ⟨q0, q1, qP, qK, qx⟩ := q
  exact ⟨q0, q1, qP, YK.moved (u := U) (U := U.calling g mk a) (Vm.Alike.refl U.vm) qK, ex_calling qx⟩
def mPre (Y : YT) (h : Nat → Nat) (L : Lg) (code : Int32) (sz : Nat) (av : List Value) : Array Value → State → Prop := va_Pc av (fun U => U.heap.size = sz ∧ mH Y h L code U.heap ∧ YK Y U)
theorem mPre_bl {Y : YT} {h : Nat → Nat} {L : Lg} {code : Int32} {sz : Nat} {av : List Value} : FrameBlind (mPre Y h L code sz av) := fun a U g mk q => by
  obtain ⟨q0, q1, qP, qK⟩ := q
  exact ⟨q0, q1, qP, YK.moved (u := U) (U := U.calling g mk a) (Vm.Alike.refl U.vm) qK⟩
/-- the start of a static method that touches no cell -/
def sPre (sz : Nat) (av : List Value) : Array Value → State → Prop := va_Pc av (fun U => U.heap.size = sz)
theorem sPre_bl {sz : Nat} {av : List Value} : FrameBlind (sPre sz av) := fun a U g mk q => q
def sPreX (Y : YT) (sz : Nat) (av : List Value) : Array Value → State → Prop := va_Pc av (fun U => U.heap.size = sz ∧ YK Y U ∧ exOK U)
theorem sPreX_bl {Y : YT} {sz : Nat} {av : List Value} : FrameBlind (sPreX Y sz av) := fun a U g mk q => by
  obtain ⟨q0, q1, qK, qx⟩ := q
  exact ⟨q0, q1, YK.moved (u := U) (U := U.calling g mk a) (Vm.Alike.refl U.vm) qK, ex_calling qx⟩
/-- what a static method without a world may change: nothing that is there -/
def sA (sz q : Nat) : Prop := sz ≤ q
/-- an exception of the class cE lies at a -/
def thr (cE : ClassId) (a : Addr) (H : Heap) : Prop := ∃ ce : Cell, H[a]? = some ce ∧ ce.vm = .none ∧ ce.cls = cE
section YR
variable {p : Program} {l : Launch} {e : Env} {R : Room} {s : State} {m : MethodId} {args : Array Value} {below : List Frame} {meth : Method} {c : Code} {H : Heap} {locs : List Loc} {cells slots : Nat} {Q : State → Prop}
variable {cc : ByteArray} {pc : Nat} {ls : Array Slot} {rest : List Value} {D : va_G} {cl : List vw_C} {A : Nat → Prop} {a : Nat} {tys : List (ClassId × FieldType)} {ws : va_W} {H0 : Heap}
theorem y_iald (hexec : p.tables.exec = Jvm.exec) (hb : c.code = cc) (hK : va_K D cl tys s) (hP : va_P D cl ws H) (q0 t0 : Nat) {cA : ClassId} {n : Nat} (f : Nat → Int32) (ha : ws[q0]? = some (a, .inl (cA, n, .inl f))) (ht : tys[t0]? = some (cA, .int)) (k : Nat) (hk : k < n) (hn : n < 2 ^ 31) (hdg : decode cc pc = .ok (.iaload, 1))
    (kk : W p l e R s m args below meth c H locs cells slots Q (F0 m (pc + 1) ls (.int (f k) :: rest))) : W p l e R s m args below meth c H locs cells slots Q (F0 m pc ls (.int (nI k) :: .ref a :: rest)) := by
  refine va_iald hexec hb hK hP q0 t0 ha ht (vp_in_nI hk hn) hdg ?_
  rw [nI_clamp (Nat.lt_trans hk hn)]
  exact kk
theorem y_sald (hexec : p.tables.exec = Jvm.exec) (hb : c.code = cc) (hK : va_K D cl tys s) (hP : va_P D cl ws H) (q0 t0 : Nat) {cA : ClassId} {n : Nat} (f : Nat → Int32) (ha : ws[q0]? = some (a, .inl (cA, n, .inl f))) (ht : tys[t0]? = some (cA, .short)) (k : Nat) (hk : k < n) (hn : n < 2 ^ 31) (hdg : decode cc pc = .ok (.saload, 1))
    (kk : W p l e R s m args below meth c H locs cells slots Q (F0 m (pc + 1) ls (.int (f k) :: rest))) : W p l e R s m args below meth c H locs cells slots Q (F0 m pc ls (.int (nI k) :: .ref a :: rest)) := by
  refine va_sald hexec hb hK hP q0 t0 ha ht (vp_in_nI hk hn) hdg ?_
  rw [nI_clamp (Nat.lt_trans hk hn)]
  exact kk
theorem y_zald (hexec : p.tables.exec = Jvm.exec) (hb : c.code = cc) (hK : va_K D cl tys s) (hP : va_P D cl ws H) (q0 t0 : Nat) {cA : ClassId} {n : Nat} (f : Nat → Int32) (ha : ws[q0]? = some (a, .inl (cA, n, .inl f))) (ht : tys[t0]? = some (cA, .boolean)) (k : Nat) (hk : k < n) (hn : n < 2 ^ 31) (hdg : decode cc pc = .ok (.baload, 1))
    (kk : W p l e R s m args below meth c H locs cells slots Q (F0 m (pc + 1) ls (.int (f k) :: rest))) : W p l e R s m args below meth c H locs cells slots Q (F0 m pc ls (.int (nI k) :: .ref a :: rest)) := by
  refine va_zald hexec hb hK hP q0 t0 ha ht (vp_in_nI hk hn) hdg ?_
  rw [nI_clamp (Nat.lt_trans hk hn)]
  exact kk
theorem y_lald (hexec : p.tables.exec = Jvm.exec) (hb : c.code = cc) (hK : va_K D cl tys s) (hP : va_P D cl ws H) (q0 t0 : Nat) {cA : ClassId} {n : Nat} (f : Nat → Int64) (ha : ws[q0]? = some (a, .inl (cA, n, .inr (.inl f)))) (ht : tys[t0]? = some (cA, .long)) (k : Nat) (hk : k < n) (hn : n < 2 ^ 31) (hdg : decode cc pc = .ok (.laload, 1))
    (kk : W p l e R s m args below meth c H locs cells slots Q (F0 m (pc + 1) ls (.long (f k) :: rest))) : W p l e R s m args below meth c H locs cells slots Q (F0 m pc ls (.int (nI k) :: .ref a :: rest)) := by
  refine va_lald hexec hb hK hP q0 t0 ha ht (vp_in_nI hk hn) hdg ?_
  rw [nI_clamp (Nat.lt_trans hk hn)]
  exact kk
theorem y_iast (hexec : p.tables.exec = Jvm.exec) (hb : c.code = cc) (hK : va_K D cl tys s) (hP : va_P D cl ws H) (hD : va_D A ws) (hS : va_S A H0 H locs) (q0 t0 : Nat) {cA : ClassId} {n : Nat} (f : Nat → Int32) (ha : ws[q0]? = some (a, .inl (cA, n, .inl f))) (ht : tys[t0]? = some (cA, .int)) (k : Nat) (hk : k < n) (hn : n < 2 ^ 31) {x : Int32} (hdg : decode cc pc = .ok (.iastore, 1))
    (kk : ∀ (H1 : Heap) (locs1 : List Loc), va_P D cl (ws.set q0 (a, .inl (cA, n, .inl (upd f k x)))) H1 → va_S A H0 H1 locs1 → W p l e R s m args below meth c H1 locs1 cells slots Q (F0 m (pc + 1) ls rest)) : W p l e R s m args below meth c H locs cells slots Q (F0 m pc ls (.int x :: .int (nI k) :: .ref a :: rest)) := by
  refine va_iast hexec hb hK hP hD hS q0 t0 ha ht (vp_in_nI hk hn) hdg (fun H1 locs1 h1 h2 h3 => ?_)
  rw [nI_clamp (Nat.lt_trans hk hn)] at h1
  exact kk H1 locs1 h1 h3
theorem y_sast (hexec : p.tables.exec = Jvm.exec) (hb : c.code = cc) (hK : va_K D cl tys s) (hP : va_P D cl ws H) (hD : va_D A ws) (hS : va_S A H0 H locs) (q0 t0 : Nat) {cA : ClassId} {n : Nat} (f : Nat → Int32) (ha : ws[q0]? = some (a, .inl (cA, n, .inl f))) (ht : tys[t0]? = some (cA, .short)) (k : Nat) (hk : k < n) (hn : n < 2 ^ 31) {x : Int32} (hx : vp_nar .short x = x) (hdg : decode cc pc = .ok (.sastore, 1))
    (kk : ∀ (H1 : Heap) (locs1 : List Loc), va_P D cl (ws.set q0 (a, .inl (cA, n, .inl (upd f k x)))) H1 → va_S A H0 H1 locs1 → W p l e R s m args below meth c H1 locs1 cells slots Q (F0 m (pc + 1) ls rest)) : W p l e R s m args below meth c H locs cells slots Q (F0 m pc ls (.int x :: .int (nI k) :: .ref a :: rest)) := by
  refine va_sast hexec hb hK hP hD hS q0 t0 ha ht (vp_in_nI hk hn) hdg (fun H1 locs1 h1 h2 h3 => ?_)
  rw [nI_clamp (Nat.lt_trans hk hn), hx] at h1
  exact kk H1 locs1 h1 h3
theorem y_zast (hexec : p.tables.exec = Jvm.exec) (hb : c.code = cc) (hK : va_K D cl tys s) (hP : va_P D cl ws H) (hD : va_D A ws) (hS : va_S A H0 H locs) (q0 t0 : Nat) {cA : ClassId} {n : Nat} (f : Nat → Int32) (ha : ws[q0]? = some (a, .inl (cA, n, .inl f))) (ht : tys[t0]? = some (cA, .boolean)) (k : Nat) (hk : k < n) (hn : n < 2 ^ 31) {x : Int32} (hx : vp_nar .boolean x = x) (hdg : decode cc pc = .ok (.bastore, 1))
    (kk : ∀ (H1 : Heap) (locs1 : List Loc), va_P D cl (ws.set q0 (a, .inl (cA, n, .inl (upd f k x)))) H1 → va_S A H0 H1 locs1 → W p l e R s m args below meth c H1 locs1 cells slots Q (F0 m (pc + 1) ls rest)) : W p l e R s m args below meth c H locs cells slots Q (F0 m pc ls (.int x :: .int (nI k) :: .ref a :: rest)) := by
  refine va_zast hexec hb hK hP hD hS q0 t0 ha ht (vp_in_nI hk hn) hdg (fun H1 locs1 h1 h2 h3 => ?_)
  rw [nI_clamp (Nat.lt_trans hk hn), hx] at h1
  exact kk H1 locs1 h1 h3
theorem y_last (hexec : p.tables.exec = Jvm.exec) (hb : c.code = cc) (hK : va_K D cl tys s) (hP : va_P D cl ws H) (hD : va_D A ws) (hS : va_S A H0 H locs) (q0 t0 : Nat) {cA : ClassId} {n : Nat} (f : Nat → Int64) (ha : ws[q0]? = some (a, .inl (cA, n, .inr (.inl f)))) (ht : tys[t0]? = some (cA, .long)) (k : Nat) (hk : k < n) (hn : n < 2 ^ 31) {x : Int64} (hdg : decode cc pc = .ok (.lastore, 1))
    (kk : ∀ (H1 : Heap) (locs1 : List Loc), va_P D cl (ws.set q0 (a, .inl (cA, n, .inr (.inl (vp_updL f k x))))) H1 → va_S A H0 H1 locs1 → W p l e R s m args below meth c H1 locs1 cells slots Q (F0 m (pc + 1) ls rest)) : W p l e R s m args below meth c H locs cells slots Q (F0 m pc ls (.long x :: .int (nI k) :: .ref a :: rest)) := by
  refine va_last hexec hb hK hP hD hS q0 t0 ha ht (vp_in_nI hk hn) hdg (fun H1 locs1 h1 h2 h3 => ?_)
  rw [nI_clamp (Nat.lt_trans hk hn)] at h1
  exact kk H1 locs1 h1 h3
/-- a new array of a class that is known already -/
theorem y_newa (hexec : p.tables.exec = Jvm.exec) (hb : c.code = cc) {atype : ArrayType} (harr : (Cond.arrayClass (newarray.typeOf atype)).before args s = true) {ty : FieldType} (hty : newarray.typeOf atype = ty) (hprim : ∀ C, ty ≠ .object C) (hK : va_K D cl tys s) (hP : va_P D cl ws H) (hD : va_D A ws) (hS : va_S A H0 H locs) (hA : ∀ q, H0.size ≤ q → A q)
    (t0 : Nat) {cA : ClassId} (ht : tys[t0]? = some (cA, ty)) {n : Int32} {N' : Nat} {a0 : vp_A} (ha : ∀ cA : ClassId, vp_cell cA a0 = arrV cA N' (fun _ => defaultValue ty)) (hn : ¬ n < 0) (hN : n.toNatClampNeg = N') (hbytes : N' * componentBytes ty ≤ 536870912) (hcells : cells + 1 ≤ R.cells) (hslots : slots + N' ≤ R.slots) (hdg : decode cc pc = .ok (.newarray atype, 2))
    (kk : ∀ (q : Nat) (H1 : Heap), va_P D cl (ws ++ [(q, .inl (cA, a0))]) H1 → va_D A (ws ++ [(q, .inl (cA, a0))]) → va_S A H0 H1 locs →
      W p l e R s m args below meth c H1 locs (cells + 1) (slots + N') Q (F0 m (pc + 2) ls (.ref q :: rest))) : W p l e R s m args below meth c H locs cells slots Q (F0 m pc ls (.int n :: rest)) := by
  refine va_newa hexec hb harr hty hK hP hD hS hA ha hn hN hbytes hcells hslots hdg (fun q cA' H1 hK1 h1 h2 h3 => ?_)
  have e1 := (hK.2 t0 _ ht).2
  have e2 := (hK1.2 tys.length (cA', ty) (by simp)).2
  have e3 : cA' = cA := by
    cases ty with
    | object C => exact absurd rfl (hprim C)
    | _ => exact Option.some.inj (e2.symm.trans e1)
  subst e3
  exact kk q H1 h1 h2 h3
end YR
end
section
/-! THE LOG AND ITS LAWS, with no program in sight -/
set_option maxRecDepth 100000
/-- the i-th latest of the rows below n that bear p -/
def occ (f : Nat → Int64) (p : Int64) : Nat → Nat → Option Nat
  | 0, _ => none
  | n + 1, 0 => if f n = p then some n else occ f p n 0
  | n + 1, i + 1 => if f n = p then occ f p n i else occ f p n (i + 1)
/-- how many of the rows below n bear p -/
def cnt (f : Nat → Int64) (p : Int64) : Nat → Nat
  | 0 => 0
  | n + 1 => cnt f p n + (if f n = p then 1 else 0)
/-- how many later ones of its producer the row k has, of n rows -/
def ltr (f : Nat → Int64) (k n : Nat) : Nat := cnt f (f k) n - cnt f (f k) (k + 1)
/-- how many producers -/
def dcnt (f : Nat → Int64) : Nat → Nat
  | 0 => 0
  | n + 1 => dcnt f n + (if f n ≠ -1 ∧ cnt f (f n) n = 0 then 1 else 0)
theorem occ_s (f : Nat → Int64) (p : Int64) (n i : Nat) (h : ¬ f n = p) : occ f p (n + 1) i = occ f p n i := by
  cases i <;> simp [occ, h]
theorem occ_h0 (f : Nat → Int64) (p : Int64) (n : Nat) (h : f n = p) : occ f p (n + 1) 0 = some n := by simp [occ, h]
theorem occ_hs (f : Nat → Int64) (p : Int64) (n i : Nat) (h : f n = p) : occ f p (n + 1) (i + 1) = occ f p n i := by simp [occ, h]
theorem cnt_s (f : Nat → Int64) (p : Int64) (n : Nat) (h : ¬ f n = p) : cnt f p (n + 1) = cnt f p n := by simp [cnt, h]
theorem cnt_h (f : Nat → Int64) (p : Int64) (n : Nat) (h : f n = p) : cnt f p (n + 1) = cnt f p n + 1 := by simp [cnt, h]
theorem cnt_le (f : Nat → Int64) (p : Int64) (n : Nat) : cnt f p n ≤ n := by
  induction n with
  | zero => simp [cnt]
  | succ n ih => by_cases h : f n = p <;> simp [cnt, h] <;> omega
theorem cnt_mono (f : Nat → Int64) (p : Int64) {a b : Nat} (h : a ≤ b) : cnt f p a ≤ cnt f p b := by
  induction b with
  | zero => have : a = 0 := by omega
            subst this; exact Nat.le_refl _
  | succ b ih =>
    by_cases h1 : a = b + 1
    · subst h1; exact Nat.le_refl _
    · have := ih (by omega)
      simp only [cnt]
      omega
theorem cnt_congr {f g : Nat → Int64} (p : Int64) {n : Nat} (h : ∀ j, j < n → f j = g j) : cnt f p n = cnt g p n := by
  induction n with
  | zero => rfl
  | succ n ih => simp only [cnt, ih (fun j hj => h j (by omega)), h n (by omega)]
theorem occ_congr {f g : Nat → Int64} (p : Int64) {n : Nat} (h : ∀ j, j < n → f j = g j) : ∀ i, occ f p n i = occ g p n i := by
  induction n with
  | zero => intro i; cases i <;> rfl
  | succ n ih =>
    have ih' := ih (fun j hj => h j (by omega))
    have e := h n (by omega)
    intro i
    cases i with
    | zero => simp only [occ, ih' 0, e]
    | succ i => simp only [occ, ih' i, ih' (i + 1), e]
theorem dcnt_congr {f g : Nat → Int64} {n : Nat} (h : ∀ j, j < n → f j = g j) : dcnt f n = dcnt g n := by
  induction n with
  | zero => rfl
  | succ n ih =>
    have e1 := ih (fun j hj => h j (by omega))
    have e2 := h n (by omega)
    have e3 : cnt f (g n) n = cnt g (g n) n := cnt_congr (g n) (fun j hj => h j (by omega))
    simp only [dcnt, e1, e2, e3]
theorem occ_some {f : Nat → Int64} {p : Int64} {n : Nat} : ∀ {i : Nat}, i < cnt f p n → ∃ k, occ f p n i = some k := by
  induction n with
  | zero => intro i h; simp [cnt] at h
  | succ n ih =>
    intro i h
    by_cases e : f n = p
    · rw [cnt_h _ _ _ e] at h
      cases i with
      | zero => exact ⟨n, occ_h0 f p n e⟩
      | succ i => rw [occ_hs f p n i e]; exact ih (by omega)
    · rw [cnt_s _ _ _ e] at h
      rw [occ_s f p n i e]
      exact ih h
theorem occ_spec {f : Nat → Int64} {p : Int64} {n : Nat} : ∀ {i k : Nat}, occ f p n i = some k → k < n ∧ f k = p ∧ cnt f p n = cnt f p (k + 1) + i := by
  induction n with
  | zero => intro i k h; cases i <;> simp [occ] at h
  | succ n ih =>
    intro i k h
    by_cases e : f n = p
    · cases i with
      | zero =>
        rw [occ_h0 f p n e] at h
        cases h
        exact ⟨by omega, e, rfl⟩
      | succ i =>
        rw [occ_hs f p n i e] at h
        obtain ⟨h1, h2, h3⟩ := ih h
        exact ⟨by omega, h2, by rw [cnt_h _ _ _ e, h3]; omega⟩
    · rw [occ_s f p n i e] at h
      obtain ⟨h1, h2, h3⟩ := ih h
      exact ⟨by omega, h2, by rw [cnt_s _ _ _ e, h3]⟩
theorem occ_lt {f : Nat → Int64} {p : Int64} {n i k : Nat} (h : occ f p n i = some k) : i < cnt f p n := by
  obtain ⟨h1, h2, h3⟩ := occ_spec h
  rw [h3, cnt_h _ _ _ h2]
  omega
theorem occ_none {f : Nat → Int64} {p : Int64} {n i : Nat} (h : cnt f p n ≤ i) : occ f p n i = none := by
  cases e : occ f p n i with
  | none => rfl
  | some k => have := occ_lt e; omega
theorem occ_ltr {f : Nat → Int64} {p : Int64} {n i k : Nat} (h : occ f p n i = some k) : ltr f k n = i := by
  obtain ⟨h1, h2, h3⟩ := occ_spec h
  unfold ltr
  rw [h2, h3]
  omega
theorem ltr_occ {f : Nat → Int64} {n k : Nat} (hk : k < n) : occ f (f k) n (ltr f k n) = some k := by
  have h1 : cnt f (f k) (k + 1) ≤ cnt f (f k) n := cnt_mono f (f k) hk
  have h2 : cnt f (f k) (k + 1) = cnt f (f k) k + 1 := cnt_h f (f k) k rfl
  obtain ⟨k', hk'⟩ := occ_some (f := f) (p := f k) (n := n) (i := ltr f k n) (by unfold ltr; omega)
  obtain ⟨a1, a2, a3⟩ := occ_spec hk'
  have a4 : cnt f (f k) (k' + 1) = cnt f (f k) (k + 1) := by unfold ltr at a3; omega
  have a5 : cnt f (f k) (k' + 1) = cnt f (f k) k' + 1 := cnt_h f (f k) k' a2
  have a6 : k' = k := by
    rcases Nat.lt_trichotomy k' k with h | h | h
    · have := cnt_mono f (f k) (show k' + 1 ≤ k by omega); omega
    · exact h
    · have := cnt_mono f (f k) (show k + 1 ≤ k' by omega); omega
  rw [hk', a6]
theorem ltr_s {f : Nat → Int64} {n k : Nat} (hk : k < n) (h : ¬ f n = f k) : ltr f k (n + 1) = ltr f k n := by
  unfold ltr
  rw [cnt_s _ _ _ h]
theorem ltr_h {f : Nat → Int64} {n k : Nat} (hk : k < n) (h : f n = f k) : ltr f k (n + 1) = ltr f k n + 1 := by
  unfold ltr
  rw [cnt_h _ _ _ h]
  have := cnt_mono f (f k) (show k + 1 ≤ n by omega)
  omega
theorem ltr_self {f : Nat → Int64} {n : Nat} : ltr f n (n + 1) = 0 := by unfold ltr; omega
theorem ltr_congr {f g : Nat → Int64} {n k : Nat} (hk : k < n) (h : ∀ j, j < n → f j = g j) : ltr f k n = ltr g k n := by
  unfold ltr
  rw [h k hk, cnt_congr _ h, cnt_congr _ (fun j hj => h j (show j < n by omega))]
/-- a row's numbers are as the class lets them in -/
def rowOK (b : Int32) (p : Int64) (e s l : Int32) : Prop := (∃ B : Nat, B ≤ 1000000 ∧ b = nI B) ∧ -1 ≤ p ∧ vp_nar .short e = e ∧ vp_nar .short l = l ∧ (∃ q : Nat, q ≤ 999 ∧ l = nI q) ∧ (p ≠ -1 → 0 ≤ s)
def LogOK (L : Lg) : Prop := gN L ≤ 2000 ∧ (∃ E : Nat, E ≤ 1000000 ∧ gE L = nI E) ∧ ∀ k, rowOK (gB L k) (gP L k) (gX L k) (gS L k) (gL L k)
def lgPush (L : Lg) (p : Int64) (e s l : Int32) : Lg := ((gN L + 1, gE L + (l + 1)), upd (gB L) (gN L) (gE L), vp_updL (gP L) (gN L) p, upd (gX L) (gN L) e, upd (gS L) (gN L) s, upd (gL L) (gN L) l)
def lgMove (L : Lg) (a b : Nat) : Lg := (L.1, upd (gB L) b (gB L a), vp_updL (gP L) b (gP L a), upd (gX L) b (gX L a), upd (gS L) b (gS L a), upd (gL L) b (gL L a))
def lgCut (L : Lg) (n : Nat) : Lg := ((n, gE L), L.2)
def lg0 : Lg := ((0, 0), fun _ => 0, fun _ => 0, fun _ => 0, fun _ => 0, fun _ => 0)
abbrev okB (p : Int64) (e s l : Int32) : Prop := (0 ≤ l ∧ l < 1000 ∧ -1 ≤ p) ∧ ((p = -1 ∧ e = -1 ∧ s = -1) ∨ (¬ p = -1 ∧ 0 ≤ e ∧ e ≤ 32767 ∧ 0 ≤ s))
def aft (s l : Int32) : Int32 := (s + l + 1) &&& 2147483647
def dup (L : Lg) (p : Int64) (e s l : Int32) : Nat → Option Int32
  | 0 => none
  | r + 1 => match occ (gP L) p (gN L) (4 - r) with
    | some k => if gX L k = e ∧ gS L k = s ∧ gL L k = l then some (gB L k) else dup L p e s l r
    | none => dup L p e s l r
def judge (L : Lg) (p : Int64) (e s l : Int32) : Int32 :=
  if p < 0 then -1 else match occ (gP L) p (gN L) 0 with
  | none => -1
  | some k0 => if e < gX L k0 then -6 else match dup L p e s l 5 with
    | some b => b
    | none => if s = (if gX L k0 < e then 0 else aft (gS L k0) (gL L k0)) then -1 else -7
/-- whether a row is known -/
abbrev kno (f : Nat → Int64) (k n : Nat) : Prop := 0 ≤ f k ∧ ltr f k n < 5
theorem lt_m1 {p : Int64} (h : -1 ≤ p) : p < 0 ↔ p = -1 := by
  have h1 : (-1 : Int) ≤ p.toInt := by
    have := Int64.le_iff_toInt_le.mp h
    rwa [show (-1 : Int64).toInt = -1 by decide] at this
  rw [Int64.lt_iff_toInt_lt, ← Int64.toInt_inj, show (-1 : Int64).toInt = -1 by decide, show (0 : Int64).toInt = 0 by decide]
  omega
theorem ge_m1 {p : Int64} (h : -1 ≤ p) : 0 ≤ p ↔ p ≠ -1 := by
  have h1 : (-1 : Int) ≤ p.toInt := by
    have := Int64.le_iff_toInt_le.mp h
    rwa [show (-1 : Int64).toInt = -1 by decide] at this
  rw [Int64.le_iff_toInt_le, ne_eq, ← Int64.toInt_inj, show (-1 : Int64).toInt = -1 by decide, show (0 : Int64).toInt = 0 by decide]
  omega
theorem not_lt64 {p : Int64} : ¬ p < 0 ↔ 0 ≤ p := by
  simp only [Int64.le_iff_toInt_le, Int64.lt_iff_toInt_lt]
  omega
end
section
/-! THE PAGES AND THEIR LAWS -/
set_option maxRecDepth 100000
def mixX (p : Int64) : Int32 := ((p * (-7046029254386353131)).toUInt64 >>> ((40 : Int32).toInt64.toUInt64 &&& Int64.toUInt64 63)).toInt64.toInt32
def mixN (p : Int64) : Nat := (mixX p).toBitVec.toNat % 2 ^ 12
theorem mix_eq (p : Int64) : mixX p &&& 4095 = nI (mixN p) := pk_and (mixX p) 12 (by decide)
theorem mix_lt (p : Int64) : mixN p < 4096 := Nat.mod_lt _ (by decide)
def hix (p : Int64) (d : Nat) : Nat := (mixN p + d) % 4096
theorem hix_lt (p : Int64) (d : Nat) : hix p d < 4096 := Nat.mod_lt _ (by decide)
theorem hix_0 (p : Int64) : hix p 0 = mixN p := by
  have := mix_lt p
  unfold hix
  omega
theorem hix_s (p : Int64) (d : Nat) : (hix p d + 1) % 4096 = hix p (d + 1) := by unfold hix; omega
def nzc (t : Nat → Int32) : Nat → Nat
  | 0 => 0
  | n + 1 => nzc t n + (if t n = 0 then 0 else 1)
theorem nzc_full {t : Nat → Int32} {n : Nat} (h : ∀ s, s < n → t s ≠ 0) : nzc t n = n := by
  induction n with
  | zero => rfl
  | succ n ih => simp [nzc, ih (fun s hs => h s (by omega)), h n (by omega)]
theorem nzc_nil {t : Nat → Int32} {n : Nat} (h : ∀ s, s < n → t s = 0) : nzc t n = 0 := by
  induction n with
  | zero => rfl
  | succ n ih => simp [nzc, ih (fun s hs => h s (by omega)), h n (by omega)]
theorem nzc_congr {t u : Nat → Int32} {n : Nat} (h : ∀ s, s < n → t s = u s) : nzc t n = nzc u n := by
  induction n with
  | zero => rfl
  | succ n ih => simp [nzc, ih (fun s hs => h s (by omega)), h n (by omega)]
theorem nzc_upd {t : Nat → Int32} {n i : Nat} {v : Int32} (hi : i < n) (h0 : t i = 0) (hv : v ≠ 0) : nzc (upd t i v) n = nzc t n + 1 := by
  induction n with
  | zero => omega
  | succ n ih =>
    by_cases e : i = n
    · subst e
      have h1 : nzc (upd t i v) i = nzc t i := nzc_congr (fun s hs => pk_un (by omega))
      simp [nzc, h1, pk_us, h0, hv]
    · have h1 := ih (by omega)
      have h2 : upd t i v n = t n := pk_un (by omega)
      simp only [nzc, h1, h2]
      omega
theorem nzc_zero {t : Nat → Int32} {n : Nat} (h : nzc t n < n) : ∃ z, z < n ∧ t z = 0 := by
  apply Classical.byContradiction
  intro hc
  have := nzc_full (t := t) (n := n) (fun s hs e => hc ⟨s, hs, e⟩)
  omega
def HtOK (P : Pg) : Prop :=
  (∀ s, s < 4096 → pT P s = 0 ∨ ∃ g, g < pN P ∧ pT P s = nI (g + 1)) ∧
  (∀ g, g < pN P → ∃ d, d < 4096 ∧ pT P (hix (pO P g) d) = nI (g + 1) ∧ ∀ d', d' < d → pT P (hix (pO P g) d') ≠ 0) ∧
  nzc (pT P) 4096 ≤ pN P
def SlotOK (P : Pg) (p : Int64) (i : Nat) : Prop :=
  ∃ d, d < 4096 ∧ i = hix p d ∧ (∀ d', d' < d → ∃ g, g < pN P ∧ pT P (hix p d') = nI (g + 1) ∧ pO P g ≠ p) ∧ (pT P i = 0 ∨ ∃ g, g < pN P ∧ pT P i = nI (g + 1) ∧ pO P g = p)
theorem slot_lt {P : Pg} {p : Int64} {i : Nat} (h : SlotOK P p i) : i < 4096 := by
  obtain ⟨d, -, rfl, -⟩ := h
  exact hix_lt p d
theorem slot_free {P : Pg} (h : HtOK P) (hn : pN P ≤ 2000) (p : Int64) : ∃ d, d < 4096 ∧ pT P (hix p d) = 0 := by
  obtain ⟨z, hz, h0⟩ := nzc_zero (t := pT P) (n := 4096) (by have := h.2.2; omega)
  refine ⟨(z + 4096 - mixN p) % 4096, Nat.mod_lt _ (by decide), ?_⟩
  have hm := mix_lt p
  have e : hix p ((z + 4096 - mixN p) % 4096) = z := by unfold hix; omega
  rw [e]
  exact h0
theorem nI_s0 {g : Nat} (h : g < 2 ^ 31 - 1) : nI (g + 1) ≠ 0 := by
  have := nI_ne0 (n := g + 1) (by omega) (by omega)
  exact this
theorem slot_none {P : Pg} (h : HtOK P) (hn : pN P ≤ 2000) {p : Int64} {i : Nat} (hs : SlotOK P p i) (h0 : pT P i = 0) : ∀ g, g < pN P → pO P g ≠ p := by
  intro g hg e
  obtain ⟨d, hd, rfl, hb, -⟩ := hs
  obtain ⟨d2, hd2, h2, hb2⟩ := h.2.1 g hg
  rw [e] at h2 hb2
  rcases Nat.lt_trichotomy d2 d with c | c | c
  · obtain ⟨g2, hg2, e2, n2⟩ := hb d2 c
    have e3 : g = g2 := by
      have := (nI_eq (a := g + 1) (b := g2 + 1) (by omega) (by omega)).mp (h2.symm.trans e2)
      omega
    exact n2 (e3 ▸ e)
  · subst c
    rw [h0] at h2
    exact nI_s0 (by omega) h2.symm
  · exact hb2 d c h0
def PgOK (f : Nat → Int64) (m : Nat) (P : Pg) : Prop :=
  pN P = dcnt f m ∧
  (∀ k, k < m → f k ≠ -1 → ∃ g, g < pN P ∧ pO P g = f k) ∧
  (∀ g, g < pN P → pO P g ≠ -1 ∧ 0 < cnt f (pO P g) m) ∧
  (∀ a b, a < pN P → b < pN P → pO P a = pO P b → a = b) ∧
  (∀ g, g < pN P → pW P g = nI (cnt f (pO P g) m)) ∧
  (∀ g i k, g < pN P → i < 5 → occ f (pO P g) m i = some k → pA P (5 * g + (cnt f (pO P g) m - 1 - i) % 5) = nI k) ∧
  (∀ k, k < m → pK P k = if f k ≠ -1 ∧ ltr f k m < 5 then 1 else 0) ∧
  HtOK P
theorem dcnt_le (f : Nat → Int64) (n : Nat) : dcnt f n ≤ n := by
  induction n with
  | zero => simp [dcnt]
  | succ n ih => simp only [dcnt]; split <;> omega
theorem PgOK.le {f : Nat → Int64} {m : Nat} {P : Pg} (h : PgOK f m P) : pN P ≤ m := by
  rw [h.1]
  exact dcnt_le f m
theorem pg_0 {f : Nat → Int64} {P : Pg} (hn : pN P = 0) (ht : ∀ s, s < 4096 → pT P s = 0) : PgOK f 0 P := by
  refine ⟨hn, ?_, ?_, ?_, ?_, ?_, ?_, ?_, ?_, ?_⟩
  · intro k hk; omega
  · intro g hg; omega
  · intro a b ha; omega
  · intro g hg; omega
  · intro g i k hg; omega
  · intro k hk; omega
  · intro s hs; exact Or.inl (ht s hs)
  · intro g hg; omega
  · rw [nzc_nil ht]; omega
theorem pg_congr {f f' : Nat → Int64} {m : Nat} {P : Pg} (e : ∀ j, j < m → f j = f' j) (h : PgOK f m P) : PgOK f' m P := by
  obtain ⟨h1, h2, h3, h4, h5, h6, h7, h8⟩ := h
  refine ⟨by rw [h1, dcnt_congr e], ?_, ?_, h4, ?_, ?_, ?_, h8⟩
  · intro k hk hn
    rw [← e k hk] at hn ⊢
    exact h2 k hk hn
  · intro g hg
    rw [← cnt_congr _ e]
    exact h3 g hg
  · intro g hg
    rw [← cnt_congr _ e]
    exact h5 g hg
  · intro g i k hg hi hk
    rw [← cnt_congr _ e]
    rw [← occ_congr _ e] at hk
    exact h6 g i k hg hi hk
  · intro k hk
    rw [← ltr_congr hk e, ← e k hk]
    exact h7 k hk
/-- a row without a producer -/
theorem pg_skip {f : Nat → Int64} {m : Nat} {P : Pg} (h : PgOK f m P) (hm : f m = -1) (hk : pK P m = 0) : PgOK f (m + 1) P := by
  obtain ⟨h1, h2, h3, h4, h5, h6, h7, h8⟩ := h
  have hc : ∀ g, g < pN P → cnt f (pO P g) (m + 1) = cnt f (pO P g) m := fun g hg => cnt_s _ _ _ (by rw [hm]; exact fun z => (h3 g hg).1 z.symm)
  refine ⟨by rw [h1]; simp [dcnt, hm], ?_, ?_, h4, ?_, ?_, ?_, h8⟩
  · intro k hk hn
    by_cases e : k = m
    · subst e; exact absurd hm hn
    · exact h2 k (by omega) hn
  · intro g hg
    rw [hc g hg]
    exact h3 g hg
  · intro g hg
    rw [hc g hg]
    exact h5 g hg
  · intro g i k hg hi hk
    rw [hc g hg]
    rw [occ_s _ _ _ _ (by rw [hm]; exact fun z => (h3 g hg).1 z.symm)] at hk
    exact h6 g i k hg hi hk
  · intro k hk2
    by_cases e : k = m
    · subst e; rw [hk]; simp [hm]
    · rw [h7 k (by omega)]
      by_cases e2 : f k = -1
      · simp [e2]
      · rw [ltr_s (by omega) (by rw [hm]; exact fun z => e2 z.symm)]
/-- the page g of the row m stands, the row isn't on it yet -/
def PgR (f : Nat → Int64) (m g : Nat) (P : Pg) : Prop :=
  (pO P g = f m ∧ g < pN P ∧ pN P = dcnt f (m + 1)) ∧
  (∀ k, k < m → f k ≠ -1 → ∃ g, g < pN P ∧ pO P g = f k) ∧
  (∀ g', g' < pN P → pO P g' ≠ -1 ∧ (g' ≠ g → 0 < cnt f (pO P g') m)) ∧
  (∀ a b, a < pN P → b < pN P → pO P a = pO P b → a = b) ∧
  (∀ g, g < pN P → pW P g = nI (cnt f (pO P g) m)) ∧
  (∀ g i k, g < pN P → i < 5 → occ f (pO P g) m i = some k → pA P (5 * g + (cnt f (pO P g) m - 1 - i) % 5) = nI k) ∧
  (∀ k, k < m → pK P k = if f k ≠ -1 ∧ ltr f k m < 5 then 1 else 0) ∧
  HtOK P
theorem pgR_old {f : Nat → Int64} {m g : Nat} {P : Pg} (h : PgOK f m P) (hg : g < pN P) (ho : pO P g = f m) : PgR f m g P := by
  obtain ⟨h1, h2, h3, h4, h5, h6, h7, h8⟩ := h
  have h0 := (h3 g hg).2
  rw [ho] at h0
  refine ⟨⟨ho, hg, ?_⟩, h2, fun g' hg' => ⟨(h3 g' hg').1, fun _ => (h3 g' hg').2⟩, h4, h5, h6, h7, h8⟩
  rw [h1]
  simp only [dcnt]
  rw [if_neg (fun z => by omega)]
  rfl
theorem pgR_new {f : Nat → Int64} {m i : Nat} {P : Pg} (h : PgOK f m P) (hm : m < 2000) (hp : f m ≠ -1) (hs : SlotOK P (f m) i) (h0 : pT P i = 0) :
    PgR f m (pN P) (pN P + 1, pK P, upd (pT P) i (nI (pN P + 1)), vp_updL (pO P) (pN P) (f m), pA P, upd (pW P) (pN P) 0) := by
  have hle := h.le
  obtain ⟨h1, h2, h3, h4, h5, h6, h7, h8⟩ := h
  have hno := slot_none h8 (by omega) hs h0
  have hc0 : cnt f (f m) m = 0 := by
    rcases Nat.eq_zero_or_pos (cnt f (f m) m) with c | c
    · exact c
    · obtain ⟨k, hk⟩ := occ_some c
      obtain ⟨a1, a2, -⟩ := occ_spec hk
      obtain ⟨g, hg, ho⟩ := h2 k a1 (by rw [a2]; exact hp)
      exact absurd (ho.trans a2) (hno g hg)
  have oN : vp_updL (pO P) (pN P) (f m) (pN P) = f m := pk_uLs
  have oO : ∀ g, g < pN P → vp_updL (pO P) (pN P) (f m) g = pO P g := fun g hg => pk_uLn (by omega)
  refine ⟨⟨oN, Nat.lt_succ_self _, ?_⟩, ?_, ?_, ?_, ?_, ?_, h7, ?_, ?_, ?_⟩
  · show pN P + 1 = dcnt f (m + 1)
    rw [h1]
    simp [dcnt, hp, hc0]
  · intro k hk hn
    obtain ⟨g, hg, ho⟩ := h2 k hk hn
    exact ⟨g, Nat.lt_succ_of_lt hg, (oO g hg).trans ho⟩
  · intro g' hg'
    show vp_updL (pO P) (pN P) (f m) g' ≠ -1 ∧ (g' ≠ pN P → 0 < cnt f (vp_updL (pO P) (pN P) (f m) g') m)
    by_cases e : g' = pN P
    · subst e
      rw [oN]
      exact ⟨hp, fun z => absurd rfl z⟩
    · have hg2 : g' < pN P := by have : g' < pN P + 1 := hg'; omega
      rw [oO g' hg2]
      exact ⟨(h3 g' hg2).1, fun _ => (h3 g' hg2).2⟩
  · intro a b ha hb e
    have ha' : a < pN P + 1 := ha
    have hb' : b < pN P + 1 := hb
    have e : vp_updL (pO P) (pN P) (f m) a = vp_updL (pO P) (pN P) (f m) b := e
    by_cases ea : a = pN P <;> by_cases eb : b = pN P
    · omega
    · rw [ea, oN, oO b (by omega)] at e
      exact absurd e.symm (hno b (by omega))
    · rw [eb, oN, oO a (by omega)] at e
      exact absurd e (hno a (by omega))
    · rw [oO a (by omega), oO b (by omega)] at e
      exact h4 a b (by omega) (by omega) e
  · intro g hg
    have hg' : g < pN P + 1 := hg
    show upd (pW P) (pN P) 0 g = nI (cnt f (vp_updL (pO P) (pN P) (f m) g) m)
    by_cases e : g = pN P
    · rw [e, oN, pk_us, hc0]; exact nI_0.symm
    · rw [pk_un e, oO g (by omega)]
      exact h5 g (by omega)
  · intro g j k hg hj hk
    have hg' : g < pN P + 1 := hg
    have hk : occ f (vp_updL (pO P) (pN P) (f m) g) m j = some k := hk
    show pA P (5 * g + (cnt f (vp_updL (pO P) (pN P) (f m) g) m - 1 - j) % 5) = nI k
    by_cases e : g = pN P
    · rw [e, oN] at hk
      have := occ_lt hk
      omega
    · rw [oO g (by omega)] at hk ⊢
      exact h6 g j k (by omega) hj hk
  · intro s hs'
    show upd (pT P) i (nI (pN P + 1)) s = 0 ∨ ∃ g, g < pN P + 1 ∧ upd (pT P) i (nI (pN P + 1)) s = nI (g + 1)
    by_cases e : s = i
    · rw [e, pk_us]
      exact Or.inr ⟨pN P, by omega, rfl⟩
    · rw [pk_un e]
      rcases h8.1 s hs' with c | ⟨g, hg, c⟩
      · exact Or.inl c
      · exact Or.inr ⟨g, by omega, c⟩
  · intro g hg
    have hg' : g < pN P + 1 := hg
    show ∃ d, d < 4096 ∧ upd (pT P) i (nI (pN P + 1)) (hix (vp_updL (pO P) (pN P) (f m) g) d) = nI (g + 1) ∧ ∀ d', d' < d → upd (pT P) i (nI (pN P + 1)) (hix (vp_updL (pO P) (pN P) (f m) g) d') ≠ 0
    by_cases e : g = pN P
    · rw [e, oN]
      obtain ⟨d, hd, e1, hb, -⟩ := hs
      refine ⟨d, hd, by rw [← e1, pk_us], fun d' hd' => ?_⟩
      by_cases e2 : hix (f m) d' = i
      · rw [e2, pk_us]; exact nI_s0 (by omega)
      · rw [pk_un e2]
        obtain ⟨g2, hg2, e3, -⟩ := hb d' hd'
        rw [e3]
        exact nI_s0 (by omega)
    · rw [oO g (by omega)]
      obtain ⟨d, hd, e1, hb⟩ := h8.2.1 g (by omega)
      have key : ∀ d', pT P (hix (pO P g) d') ≠ 0 → upd (pT P) i (nI (pN P + 1)) (hix (pO P g) d') = pT P (hix (pO P g) d') := fun d' hd' => pk_un (fun z => hd' (by rw [z]; exact h0))
      refine ⟨d, hd, ?_, fun d' hd' => ?_⟩
      · rw [key d (by rw [e1]; exact nI_s0 (by omega))]; exact e1
      · rw [key d' (hb d' hd')]; exact hb d' hd'
  · show nzc (upd (pT P) i (nI (pN P + 1))) 4096 ≤ pN P + 1
    rw [nzc_upd (slot_lt hs) h0 (nI_s0 (by omega))]
    have := h8.2.2
    omega
/-- the row m comes on its page -/
theorem pg_put {f : Nat → Int64} {m g : Nat} {P : Pg} (h : PgR f m g P) (K' : Nat → Int32)
    (hK : ∀ k, k < m → K' k = if 5 ≤ cnt f (f m) m ∧ occ f (f m) m 4 = some k then 0 else pK P k) (hKm : K' m = 1) :
    PgOK f (m + 1) (pN P, K', pT P, pO P, upd (pA P) (5 * g + cnt f (f m) m % 5) (nI m), upd (pW P) g (nI (cnt f (f m) m + 1))) := by
  obtain ⟨⟨ho, hg, h1⟩, h2, h3, h4, h5, h6, h7, h8⟩ := h
  have hp : f m ≠ -1 := by rw [← ho]; exact (h3 g hg).1
  have cO : ∀ g', g' < pN P → g' ≠ g → cnt f (pO P g') (m + 1) = cnt f (pO P g') m := fun g' hg' hne => cnt_s _ _ _ (fun z => hne (h4 g' g hg' hg (by rw [ho, z])))
  have cG : cnt f (pO P g) (m + 1) = cnt f (f m) m + 1 := by rw [ho]; exact cnt_h _ _ _ rfl
  refine ⟨h1, ?_, ?_, h4, ?_, ?_, ?_, h8⟩
  · intro k hk hn
    by_cases e : k = m
    · rw [e]; exact ⟨g, hg, ho⟩
    · exact h2 k (by omega) hn
  · intro g' hg'
    refine ⟨(h3 g' hg').1, ?_⟩
    by_cases e : g' = g
    · show 0 < cnt f (pO P g') (m + 1)
      rw [e, cG]; omega
    · show 0 < cnt f (pO P g') (m + 1)
      rw [cO g' hg' e]
      exact (h3 g' hg').2 e
  · intro g' hg'
    show upd (pW P) g (nI (cnt f (f m) m + 1)) g' = nI (cnt f (pO P g') (m + 1))
    by_cases e : g' = g
    · rw [e, pk_us, cG]
    · rw [pk_un e, cO g' hg' e]
      exact h5 g' hg'
  · intro g' i k hg' hi hk
    have hk : occ f (pO P g') (m + 1) i = some k := hk
    show upd (pA P) (5 * g + cnt f (f m) m % 5) (nI m) (5 * g' + (cnt f (pO P g') (m + 1) - 1 - i) % 5) = nI k
    by_cases e : g' = g
    · subst e
      rw [cG]
      rw [ho] at hk
      cases i with
      | zero =>
        rw [occ_h0 _ _ _ rfl] at hk
        cases hk
        have e2 : 5 * g' + (cnt f (f m) m + 1 - 1 - 0) % 5 = 5 * g' + cnt f (f m) m % 5 := by omega
        rw [e2, pk_us]
      | succ j =>
        rw [occ_hs _ _ _ _ rfl] at hk
        have hj := occ_lt hk
        have e2 : 5 * g' + (cnt f (f m) m + 1 - 1 - (j + 1)) % 5 = 5 * g' + (cnt f (pO P g') m - 1 - j) % 5 := by rw [ho]; congr 2; omega
        rw [pk_un (by omega), e2]
        rw [← ho] at hk
        exact h6 g' j k hg' (by omega) hk
    · rw [pk_un (by omega), cO g' hg' e]
      rw [occ_s _ _ _ _ (fun z => e (h4 g' g hg' hg (by rw [ho, z])))] at hk
      exact h6 g' i k hg' hi hk
  · intro k hk
    show K' k = if f k ≠ -1 ∧ ltr f k (m + 1) < 5 then 1 else 0
    by_cases e : k = m
    · rw [e, hKm, ltr_self]; simp [hp]
    · have hk' : k < m := by omega
      rw [hK k hk', h7 k hk']
      by_cases e2 : f m = f k
      · rw [ltr_h hk' e2]
        have ho4 : occ f (f m) m 4 = some k ↔ ltr f k m = 4 := by
          constructor
          · intro z; exact occ_ltr z
          · intro z; rw [e2, ← z]; exact ltr_occ hk'
        by_cases e3 : ltr f k m = 4
        · have e4 := ho4.mpr e3
          have e5 := occ_lt e4
          rw [if_pos ⟨by omega, e4⟩, if_neg (by omega)]
        · rw [if_neg (fun z => e3 (ho4.mp z.2))]
          have : (f k ≠ -1 ∧ ltr f k m < 5) ↔ (f k ≠ -1 ∧ ltr f k m + 1 < 5) := by constructor <;> (intro z; exact ⟨z.1, by omega⟩)
          simp only [this]
      · rw [ltr_s hk' e2]
        rw [if_neg (fun z => e2 (by rw [(occ_spec z.2).2.1]))]
end
section
/-! small rows -/
set_option maxRecDepth 100000
theorem inc1 (k : Nat) : nI k + Int32.ofInt 1 = nI (k + 1) := nI_1 k
theorem sA_keep {D : va_G} {cl : List vw_C} {ws : va_W} {H H1 : Heap} (hP : va_P D cl ws H) (hk : ∀ q : Nat, q < H.size → ¬ sA H.size q → H1[q]? = H[q]?) : va_P D cl ws H1 := hP.kept fun k q hq => hk q.1 (hP k q hq).lt (Nat.not_le.mpr (hP k q hq).lt)
theorem sA_kept {H H1 : Heap} {locs : List Loc} (hS : va_S (sA H.size) H H1 locs) : exKept H H1 := fun q cell hq _ => by
  have hl : q < H.size := (Array.getElem?_eq_some_iff.mp hq).1
  rw [hS.2.1 q hl (Nat.not_le.mpr hl)]
  exact hq
theorem i16_fix {x : Int32} (h1 : -32768 ≤ x.toInt) (h2 : x.toInt < 32768) : x.toInt16.toInt32 = x := by
  rw [← Int32.toInt_inj, Int16.toInt_toInt32, Int32.toInt_toInt16, Int.bmod_def]
  split <;> omega
theorem nar_nI {q : Nat} (h : q < 32768) : vp_nar .short (nI q) = nI q := by
  have e := nI_toInt (n := q) (by omega)
  exact i16_fix (by rw [e]; omega) (by rw [e]; omega)
theorem min5 {w : Nat} (hw : w < 2 ^ 31) : (if nI w < 5 then nI w else 5) = nI (min 5 w) := by
  by_cases c : w < 5
  · rw [if_pos (show nI w < 5 from nI_lt (b := 5) c (by decide)), Nat.min_eq_right (by omega)]
  · rw [if_neg (show ¬ nI w < 5 from nI_nlt (b := 5) (by omega) hw), Nat.min_eq_left (by omega)]
    rfl
theorem i5_mul (g : Nat) : 5 * nI g = nI (5 * g) := pk_mul 5 g
theorem i5_rem {a : Nat} (h : a < 2 ^ 31) : nI a - nI a / 5 * 5 = nI (a % 5) := pk_rem (d := 5) h (by decide) (by decide)
theorem and4095 {a : Nat} (h : a < 2 ^ 32) : nI a &&& 4095 = nI (a % 4096) := pk_andN h 12 (by decide)
theorem nz_cmp {x y : Int64} (h : ¬ lg_cmp x y = 0) : x ≠ y := fun z => h ((lg_cmp_eq x y).mpr z)
theorem m1_ne {k : Nat} (h : k < 2 ^ 31) : nI k ≠ -1 := by
  intro z
  have := congrArg Int32.toInt z
  rw [nI_toInt h, show (-1 : Int32).toInt = -1 by decide] at this
  omega
end
section
/-! more on pages -/
set_option maxRecDepth 100000
theorem find_ret {P : Pg} {p : Int64} {i : Nat} (h : HtOK P) (hn : pN P ≤ 2000) (hs : SlotOK P p i) : (pT P i - 1 = -1 ∧ ∀ g, g < pN P → pO P g ≠ p) ∨ ∃ g, g < pN P ∧ pT P i - 1 = nI g ∧ pO P g = p := by
  by_cases h0 : pT P i = 0
  · exact Or.inl ⟨by rw [h0]; decide, slot_none h hn hs h0⟩
  · obtain ⟨d, hd, e, hb, hz⟩ := hs
    rcases hz with hz | ⟨g, hg, e1, e2⟩
    · exact absurd hz h0
    · exact Or.inr ⟨g, hg, by rw [e1]; exact nI_pred g, e2⟩
/-- flags of rows that aren't on pages yet don't matter -/
theorem pg_K {f : Nat → Int64} {m : Nat} {pn : Nat} {fK fT : Nat → Int32} {fO : Nat → Int64} {fA fW : Nat → Int32} (h : PgOK f m (pn, fK, fT, fO, fA, fW)) (v : Int32) : PgOK f m (pn, upd fK m v, fT, fO, fA, fW) := by
  obtain ⟨h1, h2, h3, h4, h5, h6, h7, h8⟩ := h
  refine ⟨h1, h2, h3, h4, h5, h6, fun k hk => ?_, h8⟩
  show upd fK m v k = _
  rw [pk_un (by omega)]
  exact h7 k hk
theorem pgR_w {f : Nat → Int64} {m g : Nat} {P : Pg} (h : PgR f m g P) : pW P g = nI (cnt f (f m) m) ∧ g < pN P ∧ pN P ≤ m + 1 := by
  obtain ⟨⟨ho, hg, h1⟩, h2, h3, h4, h5, h6, h7, h8⟩ := h
  refine ⟨by rw [h5 g hg, ho], hg, ?_⟩
  rw [h1]
  exact dcnt_le f (m + 1)
theorem pgR_4 {f : Nat → Int64} {m g : Nat} {P : Pg} (h : PgR f m g P) (h5 : 5 ≤ cnt f (f m) m) : ∃ k, k < m ∧ occ f (f m) m 4 = some k ∧ pA P (5 * g + cnt f (f m) m % 5) = nI k := by
  obtain ⟨⟨ho, hg, h1⟩, h2, h3, h4, h5', h6, h7, h8⟩ := h
  obtain ⟨k, hk⟩ := occ_some (f := f) (p := f m) (n := m) (i := 4) (by omega)
  refine ⟨k, (occ_spec hk).1, hk, ?_⟩
  have := h6 g 4 k hg (by decide) (by rw [ho]; exact hk)
  rw [ho] at this
  rw [← this]
  congr 2
  omega
theorem ne_m1 {p : Int64} (h : ¬ lg_cmp p (-1) = 0) : p ≠ -1 := nz_cmp h
theorem eq_m1 {p q : Int64} (h : lg_cmp p q = 0) : p = q := (lg_cmp_eq p q).mp h
theorem ite_k4 {f : Nat → Int32} {w k k4 : Nat} (h : 5 ≤ w) : upd f k4 0 k = if 5 ≤ w ∧ some k4 = some k then 0 else f k := by
  by_cases e : k = k4
  · subst e
    rw [pk_us, if_pos ⟨h, rfl⟩]
  · rw [pk_un e, if_neg (fun z => e (Option.some.inj z.2).symm)]
end
section
/-! WHAT THE CALLS ANSWER, as functions of the log; laws of these -/
set_option maxRecDepth 100000
theorem ri {a b : Int32} (h : a = b) : Outcome.returned (some (Value.int a)) = Outcome.returned (some (Value.int b)) := by rw [h]
theorem rl {a b : Int64} (h : a = b) : Outcome.returned (some (Value.long a)) = Outcome.returned (some (Value.long b)) := by rw [h]
/-- k: 0 it returns r; 1 it throws IllegalArgumentException; 2 IllegalStateException -/
def xpost (Y : YT) (k : Int32) (v : Value) (o : Outcome) (H : Heap) : Prop := (k = 0 ∧ o = .returned (some v)) ∨ (k = 1 ∧ ∃ a, o = .threw a ∧ thr Y.2.2.1 a H) ∨ (k = 2 ∧ ∃ a, o = .threw a ∧ thr Y.2.2.2 a H)
abbrev full (L : Lg) (l : Int32) : Prop := 2000 ≤ gN L ∨ 1000000 < gE L + l + 1
def ofR (L : Lg) (p : Int64) (e s l : Int32) : Int32 × Int32 × Lg :=
  if ¬ okB p e s l then (1, 0, L) else if ¬ judge L p e s l = -1 then (0, judge L p e s l, L) else if full L l then (2, 0, L) else (0, gE L, lgPush L p e s l)
def nxt (p : Int64) (s l : Int32) : Int32 := if p = -1 then -1 else aft s l
def osL (L : Lg) (p : Int64) (e s l : Int32) : Nat → Lg × Int32 × Nat
  | 0 => (L, s, 0)
  | k + 1 =>
    if judge (osL L p e s l k).1 p e (osL L p e s l k).2.1 l = -1 then (lgPush (osL L p e s l k).1 p e (osL L p e s l k).2.1 l, nxt p (osL L p e s l k).2.1 l, (osL L p e s l k).2.2 + 1)
    else ((osL L p e s l k).1, nxt p (osL L p e s l k).2.1 l, (osL L p e s l k).2.2)
abbrev osFull (L : Lg) (n l : Int32) : Prop := 2000 < nI (gN L) + n ∨ 1000000 < gE L + n * (l + 1)
def osR (L : Lg) (n : Int32) (p : Int64) (e s l : Int32) : Int32 × Int32 × Lg :=
  if ¬ okB p e s l ∨ n < 1 ∨ 500 < n then (1, 0, L) else if osFull L n l then (2, 0, L) else (0, nI (osL L p e s l n.toNatClampNeg).2.2, (osL L p e s l n.toNatClampNeg).1)
def drL (L : Lg) (g : Nat) : Nat → Lg
  | 0 => L
  | j + 1 => lgMove (drL L g j) (g + j) j
def drG (L : Lg) (n : Int32) : Nat := min n.toNatClampNeg (gN L)
def drR (L : Lg) (n : Int32) : Int32 × Int32 × Lg :=
  if n < 0 ∨ 2000 < n then (1, 0, L) else (0, nI (drG L n), lgCut (drL L (drG L n) (gN L - drG L n)) (gN L - drG L n))
def thL (L : Lg) : Nat → Nat × Lg
  | 0 => (0, L)
  | k + 1 => if kno (gP L) k (gN L) then ((thL L k).1 + 1, lgMove (thL L k).2 k (thL L k).1) else thL L k
def thR (L : Lg) : Int32 × Lg := (nI (gN L) - nI (thL L (gN L)).1, lgCut (thL L (gN L)).2 (thL L (gN L)).1)
def kth (L : Lg) (p : Int64) (i : Nat) (f : Nat → Int32) : Int32 := match occ (gP L) p (gN L) i with
  | some k => f k
  | none => -1
def knR (L : Lg) (p : Int64) (w : Int32) : Int32 × Int32 :=
  if p < 0 ∨ w < 0 ∨ 4 < w then (1, 0) else
  (0, if w = 0 then nI (min 5 (cnt (gP L) p (gN L))) else if cnt (gP L) p (gN L) = 0 then -1 else if w = 1 then kth L p 0 (gX L) else if w = 2 then kth L p 0 (fun k => aft (gS L k) (gL L k)) else if w = 3 then kth L p 0 (gB L) else kth L p (min 5 (cnt (gP L) p (gN L)) - 1) (gB L))
def baR (L : Lg) (k w : Int32) : Int32 × Int64 :=
  if k < 0 ∨ nI (gN L) ≤ k ∨ w < 0 ∨ 5 < w then (1, 0) else
  (0, if w = 0 then (gB L k.toNatClampNeg).toInt64 else if w = 1 then gP L k.toNatClampNeg else if w = 2 then (gX L k.toNatClampNeg).toInt64 else if w = 3 then (gS L k.toNatClampNeg).toInt64 else if w = 4 then (gL L k.toNatClampNeg).toInt64 else if kno (gP L) k.toNatClampNeg (gN L) then 1 else 0)
def coR (L : Lg) (w : Int32) : Int32 × Int32 :=
  if w < 0 ∨ 2 < w then (1, 0) else (0, if w = 0 then nI (gN L) else if w = 1 then nI (dcnt (gP L) (gN L)) else gE L)
theorem judge_neg {L : Lg} {p : Int64} {e s l : Int32} (h : p < 0) : judge L p e s l = -1 := by simp [judge, h]
theorem judge_none {L : Lg} {p : Int64} {e s l : Int32} (h : occ (gP L) p (gN L) 0 = none) : judge L p e s l = -1 := by
  unfold judge
  rw [h]
  split <;> rfl
theorem judge_some {L : Lg} {p : Int64} {e s l : Int32} {k0 : Nat} (hp : ¬ p < 0) (h : occ (gP L) p (gN L) 0 = some k0) : judge L p e s l = if e < gX L k0 then -6 else match dup L p e s l 5 with
    | some b => b
    | none => if s = (if gX L k0 < e then 0 else aft (gS L k0) (gL L k0)) then -1 else -7 := by
  unfold judge
  rw [if_neg hp, h]
  rfl
theorem dup_at {L : Lg} {p : Int64} {e s l : Int32} {i : Nat} (hi : i < 5) : dup L p e s l (5 - i) = match occ (gP L) p (gN L) i with
    | some k => if gX L k = e ∧ gS L k = s ∧ gL L k = l then some (gB L k) else dup L p e s l (5 - (i + 1))
    | none => dup L p e s l (5 - (i + 1)) := by
  have e1 : 5 - i = (5 - (i + 1)) + 1 := by omega
  have e2 : 4 - (5 - (i + 1)) = i := by omega
  rw [e1, dup, e2]
  cases occ (gP L) p (gN L) i <;> rfl
theorem dup_end {L : Lg} {p : Int64} {e s l : Int32} : ∀ (r : Nat), r ≤ 5 → cnt (gP L) p (gN L) ≤ 5 - r → dup L p e s l r = none
  | 0, _, _ => rfl
  | r + 1, h, hc => by
    rw [dup, occ_none (by omega)]
    exact dup_end r (by omega) (by omega)
theorem judge_hit {L : Lg} {p : Int64} {e s l : Int32} {k0 i k : Nat} (hp : ¬ p < 0) (h : occ (gP L) p (gN L) 0 = some k0) (he : ¬ e < gX L k0) (hd : dup L p e s l 5 = dup L p e s l (5 - i)) (hi : i < 5) (hk : occ (gP L) p (gN L) i = some k) (h1 : gX L k = e) (h2 : gS L k = s) (h3 : gL L k = l) : gB L k = judge L p e s l := by
  rw [judge_some hp h, if_neg he, hd, dup_at hi, hk]
  simp [h1, h2, h3]
theorem dup_miss {L : Lg} {p : Int64} {e s l : Int32} {i k : Nat} (hd : dup L p e s l 5 = dup L p e s l (5 - i)) (hi : i < 5) (hk : occ (gP L) p (gN L) i = some k) (h : ¬ (gX L k = e ∧ gS L k = s ∧ gL L k = l)) : dup L p e s l 5 = dup L p e s l (5 - (i + 1)) := by
  rw [hd, dup_at hi, hk]
  simp [h]
theorem dup_skip {L : Lg} {p : Int64} {e s l : Int32} {i : Nat} (hd : dup L p e s l 5 = dup L p e s l (5 - i)) (hi : i < 5) (hk : occ (gP L) p (gN L) i = none) : dup L p e s l 5 = dup L p e s l (5 - (i + 1)) := by
  rw [hd, dup_at hi, hk]
theorem judge_due {L : Lg} {p : Int64} {e s l : Int32} {k0 : Nat} (hp : ¬ p < 0) (h : occ (gP L) p (gN L) 0 = some k0) (he : ¬ e < gX L k0) (hd : dup L p e s l 5 = none) : judge L p e s l = if s = (if gX L k0 < e then 0 else aft (gS L k0) (gL L k0)) then -1 else -7 := by
  rw [judge_some hp h, if_neg he, hd]
theorem i32_lt_of {a b : Int32} (h : ¬ a < b) (h2 : ¬ a = b) : b < a := by
  rw [Int32.lt_iff_toInt_lt] at h ⊢
  rw [← Int32.toInt_inj] at h2
  omega
theorem i32_le {a b : Int32} : ¬ a < b ↔ b ≤ a := by
  rw [Int32.lt_iff_toInt_lt, Int32.le_iff_toInt_le]
  omega
theorem i32_lt {a b : Int32} : ¬ a ≤ b ↔ b < a := by
  rw [Int32.lt_iff_toInt_lt, Int32.le_iff_toInt_le]
  omega
theorem i64_le {a b : Int64} : ¬ a < b ↔ b ≤ a := by
  rw [Int64.lt_iff_toInt_lt, Int64.le_iff_toInt_le]
  omega
theorem i64_lt {a b : Int64} : ¬ a ≤ b ↔ b < a := by
  rw [Int64.lt_iff_toInt_lt, Int64.le_iff_toInt_le]
  omega
theorem okB_nar {p : Int64} {e s l : Int32} (h : okB p e s l) : vp_nar .short e = e ∧ vp_nar .short l = l ∧ (∃ q : Nat, q ≤ 999 ∧ l = nI q) ∧ (p ≠ -1 → 0 ≤ s) := by
  obtain ⟨⟨h1, h2, h3⟩, h4⟩ := h
  have z0 : (0 : Int32).toInt = 0 := by decide
  have z1 : (1000 : Int32).toInt = 1000 := by decide
  have z2 : (32767 : Int32).toInt = 32767 := by decide
  have z3 : (-1 : Int32).toInt = -1 := by decide
  rw [Int32.le_iff_toInt_le, z0] at h1
  rw [Int32.lt_iff_toInt_lt, z1] at h2
  refine ⟨?_, i16_fix (by omega) (by omega), ?_, ?_⟩
  · rcases h4 with ⟨-, h5, -⟩ | ⟨-, h5, h6, -⟩
    · rw [h5]; exact i16_fix (by decide) (by decide)
    · rw [Int32.le_iff_toInt_le, z0] at h5
      rw [Int32.le_iff_toInt_le, z2] at h6
      exact i16_fix (by omega) (by omega)
  · obtain ⟨q, hq, e⟩ := nI_of (x := l) (by rw [Int32.lt_iff_toInt_lt, z0]; omega)
    rw [e, nI_toInt hq] at h2
    exact ⟨q, by omega, e⟩
  · intro hp
    rcases h4 with ⟨h5, -⟩ | ⟨-, -, -, h5⟩
    · exact absurd h5 hp
    · exact h5
theorem log_push {L : Lg} {p : Int64} {e s l : Int32} (h : LogOK L) (hb : okB p e s l) (hn : gN L < 2000) (he : ∃ E : Nat, E ≤ 1000000 ∧ gE L + (l + 1) = nI E) : LogOK (lgPush L p e s l) := by
  obtain ⟨h1, ⟨E, hE, eE⟩, h3⟩ := h
  obtain ⟨b1, b2, b3, b4⟩ := okB_nar hb
  refine ⟨by show gN L + 1 ≤ 2000; omega, he, fun k => ?_⟩
  show rowOK (upd (gB L) (gN L) (gE L) k) (vp_updL (gP L) (gN L) p k) (upd (gX L) (gN L) e k) (upd (gS L) (gN L) s k) (upd (gL L) (gN L) l k)
  by_cases c : k = gN L
  · rw [c, pk_us, pk_us, pk_us, pk_us, pk_uLs]
    exact ⟨⟨E, hE, eE⟩, hb.1.2.2, b1, b2, b3, b4⟩
  · rw [pk_un c, pk_un c, pk_un c, pk_un c, pk_uLn c]
    exact h3 k
theorem log_move {L : Lg} {a b : Nat} (h : LogOK L) : LogOK (lgMove L a b) := by
  obtain ⟨h1, h2, h3⟩ := h
  refine ⟨h1, h2, fun k => ?_⟩
  show rowOK (upd (gB L) b (gB L a) k) (vp_updL (gP L) b (gP L a) k) (upd (gX L) b (gX L a) k) (upd (gS L) b (gS L a) k) (upd (gL L) b (gL L a) k)
  by_cases c : k = b
  · rw [c, pk_us, pk_us, pk_us, pk_us, pk_uLs]
    exact h3 a
  · rw [pk_un c, pk_un c, pk_un c, pk_un c, pk_uLn c]
    exact h3 k
theorem log_cut {L : Lg} {n : Nat} (h : LogOK L) (hn : n ≤ 2000) : LogOK (lgCut L n) := ⟨hn, h.2.1, h.2.2⟩
theorem row_0 : rowOK 0 0 0 0 0 := ⟨⟨0, by decide, by decide⟩, by decide, by decide, by decide, ⟨0, by decide, by decide⟩, fun _ => by decide⟩
theorem log_0 : LogOK lg0 := ⟨by decide, ⟨0, by decide, by decide⟩, fun _ => row_0⟩
theorem log_end {L : Lg} {l : Int32} (h : LogOK L) (hl : ∃ q : Nat, q ≤ 999 ∧ l = nI q) (hf : ¬ 1000000 < gE L + l + 1) : ∃ E : Nat, E ≤ 1000000 ∧ gE L + (l + 1) = nI E := by
  obtain ⟨-, ⟨E, hE, eE⟩, -⟩ := h
  obtain ⟨q, hq, eq⟩ := hl
  refine ⟨E + (q + 1), ?_, by rw [eE, eq, nI_1, nI_add]⟩
  rw [eE, eq, nI_add, nI_1] at hf
  have h9 : ¬ 1000000 < E + q + 1 := fun z => hf ((nI_ltI (a := 1000000) (b := E + q + 1) (by decide) (by omega)).mpr z)
  omega
theorem dup_fin {L : Lg} {p : Int64} {e s l : Int32} {i : Nat} (h : min 5 (cnt (gP L) p (gN L)) ≤ i) : dup L p e s l (5 - i) = none := by
  by_cases c : 5 ≤ i
  · rw [show 5 - i = 0 by omega]; rfl
  · exact dup_end _ (by omega) (by omega)
end
section
/-! ProducerBook$Rows: add, move, next (written by prog/rows.py) -/
set_option maxRecDepth 100000
set_option maxHeartbeats 4000000 in
theorem mX2_add (l : Launch) (Y : YT) (h : Nat → Nat) (hh : aD 13 h) (sz : Nat) (L : Lg) (P : Pg) (p1 : Int64) (e1 s1 l1 : Int32) (hn : gN L < 2000) (he : vp_nar .short e1 = e1) (hl1 : vp_nar .short l1 = l1) : XMet l yX2_add (ws_ yX2_add cX2_add 6 none) ({ frames := 0, cells := 0, slots := 0, locals := 0 }) (bPre Y h L P sz [.ref (h 1), .long p1, .int e1, .int s1, .int l1]) (xQ (pV (bH Y h (lgPush L p1 e1 s1 l1) (pN P, upd (pK P) (gN L) 0, P.2.2))) (aA 13 h sz)) 0 0 (aA 13 h sz) := by
  refine XMet.ofW (cc := cX2_add) (maxL := 6) (ret := none) (by decide) rfl ?_
  intro p e s m args below meth c s₁ B hml hno hv
  obtain ⟨rfl, hsz, hP, hYK⟩ := hv
  obtain ⟨⟨n, e0⟩, fB, fP, fX, fS, fL⟩ := L
  obtain ⟨pn, fK, fT, fO, fA, fW⟩ := P
  have hx := B.exec
  have hb := B.bytes
  have hr := B.returns
  have hlk := B.notSynchronized
  have hts := atoms_spec (ws := ws_ yX2_add cX2_add 6 none) B.pre
  have hts : ∀ w ∈ lw_all, w.before _ s = true := fun w h => hts w (List.mem_cons_of_mem _ h)
  have hown : s.vm.findClass RX2 = some m.cls := findClass_of_methodNamed B.named
  subst hsz
  have hK := hYK.1
  have hP0 := hP
  have hS : va_S (aA 13 h s.heap.size) s.heap s.heap [] := va_S.rf
  have hl := lv_entry [.ref (h 1), .long p1, .int e1, .int s1, .int l1] (n := 6) (Nat.le_of_ble_eq_true rfl)
  rw [lg_entry_eq]
  generalize (lg_sl [.ref (h 1), .long p1, .int e1, .int s1, .int l1] ++ List.replicate (6 - (lg_sl [.ref (h 1), .long p1, .int e1, .int s1, .int l1]).length) Slot.unset).toArray = ls at hl ⊢
  have hl : lv_has ls 6 [(0, .ref (h 1)), (1, .long p1), (3, .int e1), (4, .int s1), (5, .int l1)] := hl
  have hn : n < 2000 := hn
  refine lv_aload_n hx hb dX2_add_0 rfl (lv_at hl 0 rfl) ?_
  refine va_get (D := Y.1) (ci := 1) (v := .ref (h 3)) (C := RX2) (T := TX2) (N := 8) hx hb hts in_X2 hown hK hP 1 rfl rfl 0 (by decide) (hts _ q35) (fun _ h9 => h9) rfl dX2_add_1 ?_
  refine lv_aload_n hx hb dX2_add_4 rfl (lv_at hl 0 rfl) ?_
  refine va_get (D := Y.1) (ci := 1) (v := .int (nI n)) (C := RX2) (T := TX2) (N := 8) hx hb hts in_X2 hown hK hP 1 rfl rfl 6 (by decide) (hts _ q49) (fun _ h9 => h9) rfl dX2_add_5 ?_
  refine lv_aload_n hx hb dX2_add_8 rfl (lv_at hl 0 rfl) ?_
  refine va_get (D := Y.1) (ci := 1) (v := .int e0) (C := RX2) (T := TX2) (N := 8) hx hb hts in_X2 hown hK hP 1 rfl rfl 7 (by decide) (hts _ q52) (fun _ h9 => h9) rfl dX2_add_9 ?_
  refine y_iast hx hb hK hP (bk_D hh) hS 3 0 fB rfl rfl n (by omega) (by decide) dX2_add_12 (fun H locs hP hS => ?_)
  have hP : bH Y h ((n, e0), (upd fB n e0), fP, fX, fS, fL) (pn, fK, fT, fO, fA, fW) H := hP
  refine lv_aload_n hx hb dX2_add_13 rfl (lv_at hl 0 rfl) ?_
  refine va_get (D := Y.1) (ci := 1) (v := .ref (h 4)) (C := RX2) (T := TX2) (N := 8) hx hb hts in_X2 hown hK hP 1 rfl rfl 1 (by decide) (hts _ q37) (fun _ h9 => h9) rfl dX2_add_14 ?_
  refine lv_aload_n hx hb dX2_add_17 rfl (lv_at hl 0 rfl) ?_
  refine va_get (D := Y.1) (ci := 1) (v := .int (nI n)) (C := RX2) (T := TX2) (N := 8) hx hb hts in_X2 hown hK hP 1 rfl rfl 6 (by decide) (hts _ q49) (fun _ h9 => h9) rfl dX2_add_18 ?_
  refine lv_lload_n hx hb dX2_add_21 rfl (lv_at hl 1 rfl) ?_
  refine y_last hx hb hK hP (bk_D hh) hS 4 1 fP rfl rfl n (by omega) (by decide) dX2_add_22 (fun H locs hP hS => ?_)
  have hP : bH Y h ((n, e0), (upd fB n e0), (vp_updL fP n p1), fX, fS, fL) (pn, fK, fT, fO, fA, fW) H := hP
  refine lv_aload_n hx hb dX2_add_23 rfl (lv_at hl 0 rfl) ?_
  refine va_get (D := Y.1) (ci := 1) (v := .ref (h 5)) (C := RX2) (T := TX2) (N := 8) hx hb hts in_X2 hown hK hP 1 rfl rfl 2 (by decide) (hts _ q40) (fun _ h9 => h9) rfl dX2_add_24 ?_
  refine lv_aload_n hx hb dX2_add_27 rfl (lv_at hl 0 rfl) ?_
  refine va_get (D := Y.1) (ci := 1) (v := .int (nI n)) (C := RX2) (T := TX2) (N := 8) hx hb hts in_X2 hown hK hP 1 rfl rfl 6 (by decide) (hts _ q49) (fun _ h9 => h9) rfl dX2_add_28 ?_
  refine lv_iload_n hx hb dX2_add_31 rfl (lv_at hl 2 rfl) ?_
  refine lv_i2s (v := e1) hx hb dX2_add_32 (he) ?_
  refine y_sast hx hb hK hP (bk_D hh) hS 5 2 fX rfl rfl n (by omega) (by decide) (he) dX2_add_33 (fun H locs hP hS => ?_)
  have hP : bH Y h ((n, e0), (upd fB n e0), (vp_updL fP n p1), (upd fX n e1), fS, fL) (pn, fK, fT, fO, fA, fW) H := hP
  refine lv_aload_n hx hb dX2_add_34 rfl (lv_at hl 0 rfl) ?_
  refine va_get (D := Y.1) (ci := 1) (v := .ref (h 6)) (C := RX2) (T := TX2) (N := 8) hx hb hts in_X2 hown hK hP 1 rfl rfl 3 (by decide) (hts _ q42) (fun _ h9 => h9) rfl dX2_add_35 ?_
  refine lv_aload_n hx hb dX2_add_38 rfl (lv_at hl 0 rfl) ?_
  refine va_get (D := Y.1) (ci := 1) (v := .int (nI n)) (C := RX2) (T := TX2) (N := 8) hx hb hts in_X2 hown hK hP 1 rfl rfl 6 (by decide) (hts _ q49) (fun _ h9 => h9) rfl dX2_add_39 ?_
  refine lv_iload hx hb dX2_add_42 (lv_at hl 3 rfl) ?_
  refine y_iast hx hb hK hP (bk_D hh) hS 6 0 fS rfl rfl n (by omega) (by decide) dX2_add_44 (fun H locs hP hS => ?_)
  have hP : bH Y h ((n, e0), (upd fB n e0), (vp_updL fP n p1), (upd fX n e1), (upd fS n s1), fL) (pn, fK, fT, fO, fA, fW) H := hP
  refine lv_aload_n hx hb dX2_add_45 rfl (lv_at hl 0 rfl) ?_
  refine va_get (D := Y.1) (ci := 1) (v := .ref (h 7)) (C := RX2) (T := TX2) (N := 8) hx hb hts in_X2 hown hK hP 1 rfl rfl 4 (by decide) (hts _ q44) (fun _ h9 => h9) rfl dX2_add_46 ?_
  refine lv_aload_n hx hb dX2_add_49 rfl (lv_at hl 0 rfl) ?_
  refine va_get (D := Y.1) (ci := 1) (v := .int (nI n)) (C := RX2) (T := TX2) (N := 8) hx hb hts in_X2 hown hK hP 1 rfl rfl 6 (by decide) (hts _ q49) (fun _ h9 => h9) rfl dX2_add_50 ?_
  refine lv_iload hx hb dX2_add_53 (lv_at hl 4 rfl) ?_
  refine lv_i2s (v := l1) hx hb dX2_add_55 (hl1) ?_
  refine y_sast hx hb hK hP (bk_D hh) hS 7 2 fL rfl rfl n (by omega) (by decide) (hl1) dX2_add_56 (fun H locs hP hS => ?_)
  have hP : bH Y h ((n, e0), (upd fB n e0), (vp_updL fP n p1), (upd fX n e1), (upd fS n s1), (upd fL n l1)) (pn, fK, fT, fO, fA, fW) H := hP
  refine lv_aload_n hx hb dX2_add_57 rfl (lv_at hl 0 rfl) ?_
  refine va_get (D := Y.1) (ci := 1) (v := .ref (h 8)) (C := RX2) (T := TX2) (N := 8) hx hb hts in_X2 hown hK hP 1 rfl rfl 5 (by decide) (hts _ q46) (fun _ h9 => h9) rfl dX2_add_58 ?_
  refine lv_aload_n hx hb dX2_add_61 rfl (lv_at hl 0 rfl) ?_
  refine lv_dup hx hb dX2_add_62 rfl ?_
  refine va_get (D := Y.1) (ci := 1) (v := .int (nI n)) (C := RX2) (T := TX2) (N := 8) hx hb hts in_X2 hown hK hP 1 rfl rfl 6 (by decide) (hts _ q49) (fun _ h9 => h9) rfl dX2_add_63 ?_
  refine lv_dup_x1 hx hb dX2_add_66 rfl rfl ?_
  refine lv_iconst (v := 1) hx hb dX2_add_67 (by decide) ?_
  refine lv_iadd hx hb dX2_add_68 ?_
  refine xi_eq (nI (n + 1)) (nI_1 n) ?_
  refine va_put (D := Y.1) (ci := 1) (v := .int (nI (n + 1))) (ty := .int) (C := RX2) (T := TX2) (N := 8) hx hb hts in_X2 tyX2 tyX2_ok nmX2 hown hK hP (bk_D hh) hS 1 rfl rfl 6 (by decide) (hts _ q49) (fun _ h9 => h9) rfl (by decide +kernel) rfl rfl (Nat.le_of_ble_eq_true rfl) dX2_add_69 (fun H locs hP _ hS => ?_)
  have hP : bH Y h (((n + 1), e0), (upd fB n e0), (vp_updL fP n p1), (upd fX n e1), (upd fS n s1), (upd fL n l1)) (pn, fK, fT, fO, fA, fW) H := hP
  refine lv_iconst (v := 0) hx hb dX2_add_72 (by decide) ?_
  refine y_zast hx hb hK hP (bk_D hh) hS 8 3 fK rfl rfl n (by omega) (by decide) (rfl) dX2_add_73 (fun H locs hP hS => ?_)
  have hP : bH Y h (((n + 1), e0), (upd fB n e0), (vp_updL fP n p1), (upd fX n e1), (upd fS n s1), (upd fL n l1)) (pn, (upd fK n 0), fT, fO, fA, fW) H := hP
  refine lv_aload_n hx hb dX2_add_74 rfl (lv_at hl 0 rfl) ?_
  refine lv_dup hx hb dX2_add_75 rfl ?_
  refine va_get (D := Y.1) (ci := 1) (v := .int e0) (C := RX2) (T := TX2) (N := 8) hx hb hts in_X2 hown hK hP 1 rfl rfl 7 (by decide) (hts _ q52) (fun _ h9 => h9) rfl dX2_add_76 ?_
  refine lv_iload hx hb dX2_add_79 (lv_at hl 4 rfl) ?_
  refine lv_iconst (v := 1) hx hb dX2_add_81 (by decide) ?_
  refine lv_iadd hx hb dX2_add_82 ?_
  refine lv_iadd hx hb dX2_add_83 ?_
  refine va_put (D := Y.1) (ci := 1) (v := .int (e0 + (l1 + 1))) (ty := .int) (C := RX2) (T := TX2) (N := 8) hx hb hts in_X2 tyX2 tyX2_ok nmX2 hown hK hP (bk_D hh) hS 1 rfl rfl 7 (by decide) (hts _ q52) (fun _ h9 => h9) rfl (by decide +kernel) rfl rfl (Nat.le_of_ble_eq_true rfl) dX2_add_84 (fun H locs hP _ hS => ?_)
  have hP : bH Y h (((n + 1), e0 + (l1 + 1)), (upd fB n e0), (vp_updL fP n p1), (upd fX n e1), (upd fS n s1), (upd fL n l1)) (pn, (upd fK n 0), fT, fO, fA, fW) H := hP
  exact xvret hx hb hr hlk hS dX2_add_87 (⟨rfl, hP⟩)
set_option maxHeartbeats 4000000 in
theorem mX2_move (l : Launch) (Y : YT) (h : Nat → Nat) (hh : aD 13 h) (sz : Nat) (L : Lg) (P : Pg) (a b : Nat) (ha : a < 2000) (hb2 : b < 2000) (he : vp_nar .short (gX L a) = gX L a) (hl1 : vp_nar .short (gL L a) = gL L a) (hk1 : vp_nar .boolean (pK P a) = pK P a) : XMet l yX2_move (ws_ yX2_move cX2_move 3 none) ({ frames := 0, cells := 0, slots := 0, locals := 0 }) (bPre Y h L P sz [.ref (h 1), .int (nI a), .int (nI b)]) (xQ (pV (bH Y h (lgMove L a b) (pN P, upd (pK P) b (pK P a), P.2.2))) (aA 13 h sz)) 0 0 (aA 13 h sz) := by
  refine XMet.ofW (cc := cX2_move) (maxL := 3) (ret := none) (by decide) rfl ?_
  intro p e s m args below meth c s₁ B hml hno hv
  obtain ⟨rfl, hsz, hP, hYK⟩ := hv
  obtain ⟨⟨n, e0⟩, fB, fP, fX, fS, fL⟩ := L
  obtain ⟨pn, fK, fT, fO, fA, fW⟩ := P
  have hx := B.exec
  have hb := B.bytes
  have hr := B.returns
  have hlk := B.notSynchronized
  have hts := atoms_spec (ws := ws_ yX2_move cX2_move 3 none) B.pre
  have hts : ∀ w ∈ lw_all, w.before _ s = true := fun w h => hts w (List.mem_cons_of_mem _ h)
  have hown : s.vm.findClass RX2 = some m.cls := findClass_of_methodNamed B.named
  subst hsz
  have hK := hYK.1
  have hP0 := hP
  have hS : va_S (aA 13 h s.heap.size) s.heap s.heap [] := va_S.rf
  have hl := lv_entry [.ref (h 1), .int (nI a), .int (nI b)] (n := 3) (Nat.le_of_ble_eq_true rfl)
  rw [lg_entry_eq]
  generalize (lg_sl [.ref (h 1), .int (nI a), .int (nI b)] ++ List.replicate (3 - (lg_sl [.ref (h 1), .int (nI a), .int (nI b)]).length) Slot.unset).toArray = ls at hl ⊢
  have hl : lv_has ls 3 [(0, .ref (h 1)), (1, .int (nI a)), (2, .int (nI b))] := hl
  refine lv_aload_n hx hb dX2_move_0 rfl (lv_at hl 0 rfl) ?_
  refine va_get (D := Y.1) (ci := 1) (v := .ref (h 3)) (C := RX2) (T := TX2) (N := 8) hx hb hts in_X2 hown hK hP 1 rfl rfl 0 (by decide) (hts _ q35) (fun _ h9 => h9) rfl dX2_move_1 ?_
  refine lv_iload_n hx hb dX2_move_4 rfl (lv_at hl 2 rfl) ?_
  refine lv_aload_n hx hb dX2_move_5 rfl (lv_at hl 0 rfl) ?_
  refine va_get (D := Y.1) (ci := 1) (v := .ref (h 3)) (C := RX2) (T := TX2) (N := 8) hx hb hts in_X2 hown hK hP 1 rfl rfl 0 (by decide) (hts _ q35) (fun _ h9 => h9) rfl dX2_move_6 ?_
  refine lv_iload_n hx hb dX2_move_9 rfl (lv_at hl 1 rfl) ?_
  refine y_iald hx hb hK hP 3 0 fB rfl rfl a (by omega) (by decide) dX2_move_10 ?_
  refine y_iast hx hb hK hP (bk_D hh) hS 3 0 fB rfl rfl b (by omega) (by decide) dX2_move_11 (fun H locs hP hS => ?_)
  have hP : bH Y h ((n, e0), (upd fB b (fB a)), fP, fX, fS, fL) (pn, fK, fT, fO, fA, fW) H := hP
  refine lv_aload_n hx hb dX2_move_12 rfl (lv_at hl 0 rfl) ?_
  refine va_get (D := Y.1) (ci := 1) (v := .ref (h 4)) (C := RX2) (T := TX2) (N := 8) hx hb hts in_X2 hown hK hP 1 rfl rfl 1 (by decide) (hts _ q37) (fun _ h9 => h9) rfl dX2_move_13 ?_
  refine lv_iload_n hx hb dX2_move_16 rfl (lv_at hl 2 rfl) ?_
  refine lv_aload_n hx hb dX2_move_17 rfl (lv_at hl 0 rfl) ?_
  refine va_get (D := Y.1) (ci := 1) (v := .ref (h 4)) (C := RX2) (T := TX2) (N := 8) hx hb hts in_X2 hown hK hP 1 rfl rfl 1 (by decide) (hts _ q37) (fun _ h9 => h9) rfl dX2_move_18 ?_
  refine lv_iload_n hx hb dX2_move_21 rfl (lv_at hl 1 rfl) ?_
  refine y_lald hx hb hK hP 4 1 fP rfl rfl a (by omega) (by decide) dX2_move_22 ?_
  refine y_last hx hb hK hP (bk_D hh) hS 4 1 fP rfl rfl b (by omega) (by decide) dX2_move_23 (fun H locs hP hS => ?_)
  have hP : bH Y h ((n, e0), (upd fB b (fB a)), (vp_updL fP b (fP a)), fX, fS, fL) (pn, fK, fT, fO, fA, fW) H := hP
  refine lv_aload_n hx hb dX2_move_24 rfl (lv_at hl 0 rfl) ?_
  refine va_get (D := Y.1) (ci := 1) (v := .ref (h 5)) (C := RX2) (T := TX2) (N := 8) hx hb hts in_X2 hown hK hP 1 rfl rfl 2 (by decide) (hts _ q40) (fun _ h9 => h9) rfl dX2_move_25 ?_
  refine lv_iload_n hx hb dX2_move_28 rfl (lv_at hl 2 rfl) ?_
  refine lv_aload_n hx hb dX2_move_29 rfl (lv_at hl 0 rfl) ?_
  refine va_get (D := Y.1) (ci := 1) (v := .ref (h 5)) (C := RX2) (T := TX2) (N := 8) hx hb hts in_X2 hown hK hP 1 rfl rfl 2 (by decide) (hts _ q40) (fun _ h9 => h9) rfl dX2_move_30 ?_
  refine lv_iload_n hx hb dX2_move_33 rfl (lv_at hl 1 rfl) ?_
  refine y_sald hx hb hK hP 5 2 fX rfl rfl a (by omega) (by decide) dX2_move_34 ?_
  refine y_sast hx hb hK hP (bk_D hh) hS 5 2 fX rfl rfl b (by omega) (by decide) (he) dX2_move_35 (fun H locs hP hS => ?_)
  have hP : bH Y h ((n, e0), (upd fB b (fB a)), (vp_updL fP b (fP a)), (upd fX b (fX a)), fS, fL) (pn, fK, fT, fO, fA, fW) H := hP
  refine lv_aload_n hx hb dX2_move_36 rfl (lv_at hl 0 rfl) ?_
  refine va_get (D := Y.1) (ci := 1) (v := .ref (h 6)) (C := RX2) (T := TX2) (N := 8) hx hb hts in_X2 hown hK hP 1 rfl rfl 3 (by decide) (hts _ q42) (fun _ h9 => h9) rfl dX2_move_37 ?_
  refine lv_iload_n hx hb dX2_move_40 rfl (lv_at hl 2 rfl) ?_
  refine lv_aload_n hx hb dX2_move_41 rfl (lv_at hl 0 rfl) ?_
  refine va_get (D := Y.1) (ci := 1) (v := .ref (h 6)) (C := RX2) (T := TX2) (N := 8) hx hb hts in_X2 hown hK hP 1 rfl rfl 3 (by decide) (hts _ q42) (fun _ h9 => h9) rfl dX2_move_42 ?_
  refine lv_iload_n hx hb dX2_move_45 rfl (lv_at hl 1 rfl) ?_
  refine y_iald hx hb hK hP 6 0 fS rfl rfl a (by omega) (by decide) dX2_move_46 ?_
  refine y_iast hx hb hK hP (bk_D hh) hS 6 0 fS rfl rfl b (by omega) (by decide) dX2_move_47 (fun H locs hP hS => ?_)
  have hP : bH Y h ((n, e0), (upd fB b (fB a)), (vp_updL fP b (fP a)), (upd fX b (fX a)), (upd fS b (fS a)), fL) (pn, fK, fT, fO, fA, fW) H := hP
  refine lv_aload_n hx hb dX2_move_48 rfl (lv_at hl 0 rfl) ?_
  refine va_get (D := Y.1) (ci := 1) (v := .ref (h 7)) (C := RX2) (T := TX2) (N := 8) hx hb hts in_X2 hown hK hP 1 rfl rfl 4 (by decide) (hts _ q44) (fun _ h9 => h9) rfl dX2_move_49 ?_
  refine lv_iload_n hx hb dX2_move_52 rfl (lv_at hl 2 rfl) ?_
  refine lv_aload_n hx hb dX2_move_53 rfl (lv_at hl 0 rfl) ?_
  refine va_get (D := Y.1) (ci := 1) (v := .ref (h 7)) (C := RX2) (T := TX2) (N := 8) hx hb hts in_X2 hown hK hP 1 rfl rfl 4 (by decide) (hts _ q44) (fun _ h9 => h9) rfl dX2_move_54 ?_
  refine lv_iload_n hx hb dX2_move_57 rfl (lv_at hl 1 rfl) ?_
  refine y_sald hx hb hK hP 7 2 fL rfl rfl a (by omega) (by decide) dX2_move_58 ?_
  refine y_sast hx hb hK hP (bk_D hh) hS 7 2 fL rfl rfl b (by omega) (by decide) (hl1) dX2_move_59 (fun H locs hP hS => ?_)
  have hP : bH Y h ((n, e0), (upd fB b (fB a)), (vp_updL fP b (fP a)), (upd fX b (fX a)), (upd fS b (fS a)), (upd fL b (fL a))) (pn, fK, fT, fO, fA, fW) H := hP
  refine lv_aload_n hx hb dX2_move_60 rfl (lv_at hl 0 rfl) ?_
  refine va_get (D := Y.1) (ci := 1) (v := .ref (h 8)) (C := RX2) (T := TX2) (N := 8) hx hb hts in_X2 hown hK hP 1 rfl rfl 5 (by decide) (hts _ q46) (fun _ h9 => h9) rfl dX2_move_61 ?_
  refine lv_iload_n hx hb dX2_move_64 rfl (lv_at hl 2 rfl) ?_
  refine lv_aload_n hx hb dX2_move_65 rfl (lv_at hl 0 rfl) ?_
  refine va_get (D := Y.1) (ci := 1) (v := .ref (h 8)) (C := RX2) (T := TX2) (N := 8) hx hb hts in_X2 hown hK hP 1 rfl rfl 5 (by decide) (hts _ q46) (fun _ h9 => h9) rfl dX2_move_66 ?_
  refine lv_iload_n hx hb dX2_move_69 rfl (lv_at hl 1 rfl) ?_
  refine y_zald hx hb hK hP 8 3 fK rfl rfl a (by omega) (by decide) dX2_move_70 ?_
  refine y_zast hx hb hK hP (bk_D hh) hS 8 3 fK rfl rfl b (by omega) (by decide) (hk1) dX2_move_71 (fun H locs hP hS => ?_)
  have hP : bH Y h ((n, e0), (upd fB b (fB a)), (vp_updL fP b (fP a)), (upd fX b (fX a)), (upd fS b (fS a)), (upd fL b (fL a))) (pn, (upd fK b (fK a)), fT, fO, fA, fW) H := hP
  exact xvret hx hb hr hlk hS dX2_move_72 (⟨rfl, hP⟩)
set_option maxHeartbeats 4000000 in
theorem mX2_next (l : Launch) (Y : YT) (h : Nat → Nat) (hh : aD 13 h) (sz : Nat) (L : Lg) (P : Pg) (k : Nat) (hk2 : k < 2000) : XMet l yX2_next (ws_ yX2_next cX2_next 2 (some .int)) ({ frames := 0, cells := 0, slots := 0, locals := 0 }) (bPre Y h L P sz [.ref (h 1), .int (nI k)]) (xQ (pI (aft (gS L k) (gL L k)) (bH Y h L P)) (aA 13 h sz)) 0 0 (aA 13 h sz) := by
  refine XMet.ofW (cc := cX2_next) (maxL := 2) (ret := (some .int)) (by decide) rfl ?_
  intro p e s m args below meth c s₁ B hml hno hv
  obtain ⟨rfl, hsz, hP, hYK⟩ := hv
  obtain ⟨⟨n, e0⟩, fB, fP, fX, fS, fL⟩ := L
  obtain ⟨pn, fK, fT, fO, fA, fW⟩ := P
  have hx := B.exec
  have hb := B.bytes
  have hr := B.returns
  have hlk := B.notSynchronized
  have hts := atoms_spec (ws := ws_ yX2_next cX2_next 2 (some .int)) B.pre
  have hts : ∀ w ∈ lw_all, w.before _ s = true := fun w h => hts w (List.mem_cons_of_mem _ h)
  have hown : s.vm.findClass RX2 = some m.cls := findClass_of_methodNamed B.named
  subst hsz
  have hK := hYK.1
  have hP0 := hP
  have hS : va_S (aA 13 h s.heap.size) s.heap s.heap [] := va_S.rf
  have hl := lv_entry [.ref (h 1), .int (nI k)] (n := 2) (Nat.le_of_ble_eq_true rfl)
  rw [lg_entry_eq]
  generalize (lg_sl [.ref (h 1), .int (nI k)] ++ List.replicate (2 - (lg_sl [.ref (h 1), .int (nI k)]).length) Slot.unset).toArray = ls at hl ⊢
  have hl : lv_has ls 2 [(0, .ref (h 1)), (1, .int (nI k))] := hl
  refine lv_aload_n hx hb dX2_next_0 rfl (lv_at hl 0 rfl) ?_
  refine va_get (D := Y.1) (ci := 1) (v := .ref (h 6)) (C := RX2) (T := TX2) (N := 8) hx hb hts in_X2 hown hK hP 1 rfl rfl 3 (by decide) (hts _ q42) (fun _ h9 => h9) rfl dX2_next_1 ?_
  refine lv_iload_n hx hb dX2_next_4 rfl (lv_at hl 1 rfl) ?_
  refine y_iald hx hb hK hP 6 0 fS rfl rfl k (by omega) (by decide) dX2_next_5 ?_
  refine lv_aload_n hx hb dX2_next_6 rfl (lv_at hl 0 rfl) ?_
  refine va_get (D := Y.1) (ci := 1) (v := .ref (h 7)) (C := RX2) (T := TX2) (N := 8) hx hb hts in_X2 hown hK hP 1 rfl rfl 4 (by decide) (hts _ q44) (fun _ h9 => h9) rfl dX2_next_7 ?_
  refine lv_iload_n hx hb dX2_next_10 rfl (lv_at hl 1 rfl) ?_
  refine y_sald hx hb hK hP 7 2 fL rfl rfl k (by omega) (by decide) dX2_next_11 ?_
  refine lv_iadd hx hb dX2_next_12 ?_
  refine lv_iconst (v := 1) hx hb dX2_next_13 (by decide) ?_
  refine lv_iadd hx hb dX2_next_14 ?_
  refine lv_ldc hx hb hown (hts _ q234) dX2_next_15 ?_
  refine lv_iand hx hb dX2_next_17 ?_
  exact xiret hx hb hr hlk hS dX2_next_18 (⟨rfl, hP⟩)
end
section
/-! ProducerBook$Pages: mix, slot, find, known, batch (written by prog/pages.py) -/
set_option maxRecDepth 100000
set_option maxHeartbeats 4000000 in
theorem mX3_mix (l : Launch) (sz : Nat) (p1 : Int64) : XMet l yX3_mix (ws_ yX3_mix cX3_mix 4 (some .int)) ({ frames := 0, cells := 0, slots := 0, locals := 0 }) (sPre sz [.long p1]) (xQ (pI (nI (mixN p1)) (fun _ => True)) (sA sz)) 0 0 (sA sz) := by
  refine XMet.ofW (cc := cX3_mix) (maxL := 4) (ret := (some .int)) (by decide) rfl ?_
  intro p e s m args below meth c s₁ B hml hno hv
  obtain ⟨rfl, hsz⟩ := hv
  have hx := B.exec
  have hb := B.bytes
  have hr := B.returns
  have hlk := B.notSynchronized
  have hts := atoms_spec (ws := ws_ yX3_mix cX3_mix 4 (some .int)) B.pre
  have hts : ∀ w ∈ lw_all, w.before _ s = true := fun w h => hts w (List.mem_cons_of_mem _ h)
  have hown : s.vm.findClass RX3 = some m.cls := findClass_of_methodNamed B.named
  subst hsz
  have hS : va_S (sA s.heap.size) s.heap s.heap [] := va_S.rf
  have hl := lv_entry [.long p1] (n := 4) (Nat.le_of_ble_eq_true rfl)
  rw [lg_entry_eq]
  generalize (lg_sl [.long p1] ++ List.replicate (4 - (lg_sl [.long p1]).length) Slot.unset).toArray = ls at hl ⊢
  have hl : lv_has ls 4 [(0, .long p1)] := hl
  refine lv_lload_n hx hb dX3_mix_0 rfl (lv_at hl 0 rfl) ?_
  refine lv_ldc2 hx hb hown (hts _ q132) dX3_mix_1 ?_
  refine lv_lmul hx hb dX3_mix_4 ?_
  refine lv_lstore_n (lv' := [(2, .long (p1 * (-7046029254386353131))), (0, .long p1)]) hx hb dX3_mix_5 rfl hl (by decide) rfl (fun ls hl => ?_)
  refine lv_lload_n hx hb dX3_mix_6 rfl (lv_at hl 0 rfl) ?_
  refine lv_bipush (v := 40) hx hb dX3_mix_7 (by decide) ?_
  refine lv_lushr (v := ((p1 * (-7046029254386353131)).toUInt64 >>> ((40 : Int32).toInt64.toUInt64 &&& Int64.toUInt64 63)).toInt64) hx hb dX3_mix_9 rfl ?_
  refine lv_l2i (v := (((p1 * (-7046029254386353131)).toUInt64 >>> ((40 : Int32).toInt64.toUInt64 &&& Int64.toUInt64 63)).toInt64).toInt32) hx hb dX3_mix_10 rfl ?_
  refine lv_sipush (v := 4095) hx hb dX3_mix_11 (by decide) ?_
  refine lv_iand hx hb dX3_mix_14 ?_
  refine xi_eq (nI (mixN p1)) (mix_eq p1) ?_
  exact xiret hx hb hr hlk hS dX3_mix_15 (⟨rfl, trivial⟩)
set_option maxHeartbeats 4000000 in
theorem mX3_slot (l : Launch) (Y : YT) (h : Nat → Nat) (hh : aD 13 h) (sz : Nat) (L : Lg) (P : Pg) (p1 : Int64) (hok : HtOK P) (hpn : pN P ≤ 2000) : XMet l yX3_slot (ws_ yX3_slot cX3_slot 4 (some .int)) ({ frames := 1, cells := 0, slots := 0, locals := 23 }) (bPre Y h L P sz [.ref (h 2), .long p1]) (xQ (pE (fun r H => (∃ i, r = nI i ∧ SlotOK P p1 i) ∧ bH Y h L P H)) (aA 13 h sz)) 0 0 (aA 13 h sz) := by
  refine XMet.ofW (cc := cX3_slot) (maxL := 4) (ret := (some .int)) (by decide) rfl ?_
  intro p e s m args below meth c s₁ B hml hno hv
  obtain ⟨rfl, hsz, hP, hYK⟩ := hv
  obtain ⟨⟨n, e0⟩, fB, fP, fX, fS, fL⟩ := L
  obtain ⟨pn, fK, fT, fO, fA, fW⟩ := P
  have hx := B.exec
  have hb := B.bytes
  have hr := B.returns
  have hlk := B.notSynchronized
  have hts := atoms_spec (ws := ws_ yX3_slot cX3_slot 4 (some .int)) B.pre
  have hts : ∀ w ∈ lw_all, w.before _ s = true := fun w h => hts w (List.mem_cons_of_mem _ h)
  have hown : s.vm.findClass RX3 = some m.cls := findClass_of_methodNamed B.named
  subst hsz
  have hK := hYK.1
  have hP0 := hP
  have hS : va_S (aA 13 h s.heap.size) s.heap s.heap [] := va_S.rf
  have hl := lv_entry [.ref (h 2), .long p1] (n := 4) (Nat.le_of_ble_eq_true rfl)
  rw [lg_entry_eq]
  generalize (lg_sl [.ref (h 2), .long p1] ++ List.replicate (4 - (lg_sl [.ref (h 2), .long p1]).length) Slot.unset).toArray = ls at hl ⊢
  have hl : lv_has ls 4 [(0, .ref (h 2)), (1, .long p1)] := hl
  refine lv_lload_n hx hb dX3_slot_0 rfl (lv_at hl 1 rfl) ?_
  refine xgoI (xrunS (As := [.long p1]) (rest := []) ⟨hx, hb, hml, hown, hts⟩ (mX3_mix l s.heap.size p1) (va_cwS 1 hts (lw_S q129 q130 q13 q131) rfl rfl rfl (by decide +kernel) ⟨Nat.le_of_ble_eq_true rfl, Nat.le_of_ble_eq_true rfl⟩) ⟨sPre_bl, fun U hU hW => ⟨rfl, congrArg Array.size hU⟩⟩ rfl rfl hl.1 rfl (lv_room (Nat.le_of_ble_eq_true rfl)) dX3_slot_1 ⟨Nat.le_of_ble_eq_true rfl, Nat.le_of_ble_eq_true rfl⟩) hS (fun q _ h => Or.inr (Nat.le_trans hS.1 h)) (fun q h => Or.inr (Nat.le_trans hS.1 h)) (fun H locs _ hz hk hS => ?_)
  have hP := sA_keep hP hk
  refine lv_istore_n (lv' := [(3, .int (nI (mixN p1))), (0, .ref (h 2)), (1, .long p1)]) hx hb dX3_slot_4 rfl hl (by decide) rfl (fun ls hl => ?_)
  have loop : ∀ (k d : Nat), d + k = 4096 → (∀ d', d' < d → ∃ g, g < pn ∧ fT (hix p1 d') = nI (g + 1) ∧ fO g ≠ p1) → ∀ (H : Heap) (locs : List Loc), bH Y h ((n, e0), fB, fP, fX, fS, fL) (pn, fK, fT, fO, fA, fW) H → va_S (aA 13 h s.heap.size) s.heap H locs → ∀ (ls : Array Slot), lv_has ls 4 [(3, .int (nI (hix p1 d))), (0, .ref (h 2)), (1, .long p1)] → W p l e (headSpec (ws_ yX3_slot cX3_slot 4 (some .int)) ({ frames := 1, cells := 0, slots := 0, locals := 23 })).room s m ([.ref (h 2), .long p1] : List Value).toArray below meth c H locs 0 0 (XMQ below (xQ (pE (fun r H => (∃ i, r = nI i ∧ SlotOK (pn, fK, fT, fO, fA, fW) p1 i) ∧ bH Y h ((n, e0), fB, fP, fX, fS, fL) (pn, fK, fT, fO, fA, fW) H)) (aA 13 h s.heap.size)) ([.ref (h 2), .long p1] : List Value).toArray s 0 0 (aA 13 h s.heap.size)) (F0 m 5 ls []) := by
    intro k
    induction k with
    | zero =>
      intro d hd hb2
      obtain ⟨dz, hz, h0⟩ := slot_free hok hpn p1
      obtain ⟨g, -, hg, -⟩ := hb2 dz (by omega)
      rw [show pT (pn, fK, fT, fO, fA, fW) (hix p1 dz) = fT (hix p1 dz) from rfl, hg] at h0
      rcases Nat.lt_or_ge g pn with c | c
      · have hpn : pn ≤ 2000 := hpn
        exact absurd h0 (nI_s0 (by omega))
      · obtain ⟨g2, hg2, e2, -⟩ := hb2 dz (by omega)
        have hpn : pn ≤ 2000 := hpn
        rw [hg] at e2
        exact absurd (e2.symm.trans h0) (nI_s0 (by omega))
    | succ k ih =>
      intro d hd hb2 H locs hP hS ls hl
      refine lv_aload_n hx hb dX3_slot_5 rfl (lv_at hl 1 rfl) ?_
      refine va_get (D := Y.1) (ci := 2) (v := .ref (h 9)) (C := RX3) (T := TX3) (N := 6) hx hb hts in_X3 hown hK hP 2 rfl rfl 1 (by decide) (hts _ q82) (fun _ h9 => h9) rfl dX3_slot_6 ?_
      refine lv_iload_n hx hb dX3_slot_9 rfl (lv_at hl 0 rfl) ?_
      refine y_sald hx hb hK hP 9 2 fT rfl rfl (hix p1 d) (hix_lt p1 d) (by decide) dX3_slot_10 ?_
      refine lv_if_eq (tgt := 43) hx hb dX3_slot_11 (by decide) (fun c_11 => ?_) (fun c_11 => ?_)
      · refine lv_iload_n hx hb dX3_slot_43 rfl (lv_at hl 0 rfl) ?_
        exact xiret hx hb hr hlk hS dX3_slot_44 (⟨_, rfl, ⟨_, rfl, d, by omega, rfl, hb2, Or.inl c_11⟩, hP⟩)
      · obtain ⟨g, hg, hge⟩ : ∃ g, g < pn ∧ fT (hix p1 d) = nI (g + 1) := by
          rcases hok.1 (hix p1 d) (hix_lt p1 d) with z | z
          · exact absurd z c_11
          · exact z
        have hpn : pn ≤ 2000 := hpn
        refine lv_aload_n hx hb dX3_slot_14 rfl (lv_at hl 1 rfl) ?_
        refine va_get (D := Y.1) (ci := 2) (v := .ref (h 10)) (C := RX3) (T := TX3) (N := 6) hx hb hts in_X3 hown hK hP 2 rfl rfl 2 (by decide) (hts _ q83) (fun _ h9 => h9) rfl dX3_slot_15 ?_
        refine lv_aload_n hx hb dX3_slot_18 rfl (lv_at hl 1 rfl) ?_
        refine va_get (D := Y.1) (ci := 2) (v := .ref (h 9)) (C := RX3) (T := TX3) (N := 6) hx hb hts in_X3 hown hK hP 2 rfl rfl 1 (by decide) (hts _ q82) (fun _ h9 => h9) rfl dX3_slot_19 ?_
        refine lv_iload_n hx hb dX3_slot_22 rfl (lv_at hl 0 rfl) ?_
        refine y_sald hx hb hK hP 9 2 fT rfl rfl (hix p1 d) (hix_lt p1 d) (by decide) dX3_slot_23 ?_
        refine lv_iconst (v := 1) hx hb dX3_slot_24 (by decide) ?_
        refine lv_isub hx hb dX3_slot_25 ?_
        refine xi_eq (nI g) (by rw [hge]; exact nI_pred g) ?_
        refine y_lald hx hb hK hP 10 1 fO rfl rfl g (by omega) (by decide) dX3_slot_26 ?_
        refine lv_lload_n hx hb dX3_slot_27 rfl (lv_at hl 2 rfl) ?_
        refine W.lcmp hx hb dX3_slot_28 ?_
        refine lv_if_eq (tgt := 43) hx hb dX3_slot_29 (by decide) (fun c_29 => ?_) (fun c_29 => ?_)
        · refine lv_iload_n hx hb dX3_slot_43 rfl (lv_at hl 0 rfl) ?_
          exact xiret hx hb hr hlk hS dX3_slot_44 (⟨_, rfl, ⟨_, rfl, d, by omega, rfl, hb2, Or.inr ⟨g, hg, hge, eq_m1 c_29⟩⟩, hP⟩)
        · refine lv_iload_n hx hb dX3_slot_32 rfl (lv_at hl 0 rfl) ?_
          refine lv_iconst (v := 1) hx hb dX3_slot_33 (by decide) ?_
          refine lv_iadd hx hb dX3_slot_34 ?_
          refine lv_sipush (v := 4095) hx hb dX3_slot_35 (by decide) ?_
          refine lv_iand hx hb dX3_slot_38 ?_
          refine xi_eq (nI (hix p1 (d + 1))) (by rw [nI_1, and4095 (by have := hix_lt p1 d; omega), hix_s]) ?_
          refine lv_istore_n (lv' := [(3, .int (nI (hix p1 (d + 1)))), (0, .ref (h 2)), (1, .long p1)]) hx hb dX3_slot_39 rfl hl (by decide) rfl (fun ls hl => ?_)
          refine lv_goto (tgt := 5) hx hb dX3_slot_40 (by decide) ?_
          exact ih (d + 1) (by omega) (fun d' hd' => (Nat.lt_or_eq_of_le (Nat.le_of_lt_succ hd')).elim (hb2 d') (fun z => ⟨g, hg, by rw [z]; exact hge, by rw [z] at *; exact nz_cmp c_29⟩)) _ _ hP hS ls (lv_sub hl [0, 1, 2] rfl)
  exact loop 4096 0 rfl (fun d' hd' => absurd hd' (Nat.not_lt_zero _)) _ _ hP hS ls (by rw [hix_0]; exact hl)
set_option maxHeartbeats 4000000 in
theorem mX3_find (l : Launch) (Y : YT) (h : Nat → Nat) (hh : aD 13 h) (sz : Nat) (L : Lg) (P : Pg) (p1 : Int64) (hok : HtOK P) (hpn : pN P ≤ 2000) : XMet l yX3_find (ws_ yX3_find cX3_find 3 (some .int)) ({ frames := 2, cells := 0, slots := 0, locals := 46 }) (bPre Y h L P sz [.ref (h 2), .long p1]) (xQ (pE (fun r H => ((r = -1 ∧ ∀ g, g < pN P → pO P g ≠ p1) ∨ ∃ g, g < pN P ∧ r = nI g ∧ pO P g = p1) ∧ bH Y h L P H)) (aA 13 h sz)) 0 0 (aA 13 h sz) := by
  refine XMet.ofW (cc := cX3_find) (maxL := 3) (ret := (some .int)) (by decide) rfl ?_
  intro p e s m args below meth c s₁ B hml hno hv
  obtain ⟨rfl, hsz, hP, hYK⟩ := hv
  obtain ⟨⟨n, e0⟩, fB, fP, fX, fS, fL⟩ := L
  obtain ⟨pn, fK, fT, fO, fA, fW⟩ := P
  have hx := B.exec
  have hb := B.bytes
  have hr := B.returns
  have hlk := B.notSynchronized
  have hts := atoms_spec (ws := ws_ yX3_find cX3_find 3 (some .int)) B.pre
  have hts : ∀ w ∈ lw_all, w.before _ s = true := fun w h => hts w (List.mem_cons_of_mem _ h)
  have hown : s.vm.findClass RX3 = some m.cls := findClass_of_methodNamed B.named
  subst hsz
  have hK := hYK.1
  have hP0 := hP
  have hS : va_S (aA 13 h s.heap.size) s.heap s.heap [] := va_S.rf
  have hl := lv_entry [.ref (h 2), .long p1] (n := 3) (Nat.le_of_ble_eq_true rfl)
  rw [lg_entry_eq]
  generalize (lg_sl [.ref (h 2), .long p1] ++ List.replicate (3 - (lg_sl [.ref (h 2), .long p1]).length) Slot.unset).toArray = ls at hl ⊢
  have hl : lv_has ls 3 [(0, .ref (h 2)), (1, .long p1)] := hl
  refine lv_aload_n hx hb dX3_find_0 rfl (lv_at hl 0 rfl) ?_
  refine va_get (D := Y.1) (ci := 2) (v := .ref (h 9)) (C := RX3) (T := TX3) (N := 6) hx hb hts in_X3 hown hK hP 2 rfl rfl 1 (by decide) (hts _ q82) (fun _ h9 => h9) rfl dX3_find_1 ?_
  refine lv_aload_n hx hb dX3_find_4 rfl (lv_at hl 0 rfl) ?_
  refine lv_lload_n hx hb dX3_find_5 rfl (lv_at hl 1 rfl) ?_
  refine xgoE (xrunV (As := [.long p1]) (rest := [.ref (h 9)]) ⟨hx, hb, hml, hown, hts⟩ (mX3_slot l Y h hh s.heap.size _ _ p1 hok hpn) (cwV 1 hts (lw_V q125 q127 qs0 q13 q128) rfl rfl rfl (by decide +kernel) ⟨Nat.le_of_ble_eq_true rfl, Nat.le_of_ble_eq_true rfl⟩) ⟨bPre_bl, va_recv hK hP (ci := 2) (q0 := 2) rfl rfl, fun U hU hW => ⟨rfl, by rw [hU], by rw [hU]; exact hP, hYK.moved hW.alike⟩⟩ rfl rfl hl.1 rfl (lv_room (Nat.le_of_ble_eq_true rfl)) dX3_find_6 ⟨Nat.le_of_ble_eq_true rfl, Nat.le_of_ble_eq_true rfl⟩) hS (fun q _ h => aA.le hS.1 h) (fun q h => aA.le hS.1 h) (fun r6 H locs hP hz hk hS => ?_)
  obtain ⟨⟨i, rfl, hs⟩, hP⟩ := hP
  refine y_sald hx hb hK hP 9 2 fT rfl rfl i (slot_lt hs) (by decide) dX3_find_9 ?_
  refine lv_iconst (v := 1) hx hb dX3_find_10 (by decide) ?_
  refine lv_isub hx hb dX3_find_11 ?_
  exact xiret hx hb hr hlk hS dX3_find_12 (⟨_, rfl, find_ret hok hpn hs, hP⟩)
set_option maxHeartbeats 4000000 in
theorem mX3_known (l : Launch) (Y : YT) (h : Nat → Nat) (hh : aD 13 h) (sz : Nat) (L : Lg) (P : Pg) (g w : Nat) (hg : g < 2000) (hw : pW P g = nI w) (hw2 : w < 2 ^ 31) : XMet l yX3_known (ws_ yX3_known cX3_known 2 (some .int)) ({ frames := 1, cells := 0, slots := 0, locals := 14 }) (bPre Y h L P sz [.ref (h 2), .int (nI g)]) (xQ (pI (nI (min 5 w)) (bH Y h L P)) (aA 13 h sz)) 0 0 (aA 13 h sz) := by
  refine XMet.ofW (cc := cX3_known) (maxL := 2) (ret := (some .int)) (by decide) rfl ?_
  intro p e s m args below meth c s₁ B hml hno hv
  obtain ⟨rfl, hsz, hP, hYK⟩ := hv
  obtain ⟨⟨n, e0⟩, fB, fP, fX, fS, fL⟩ := L
  obtain ⟨pn, fK, fT, fO, fA, fW⟩ := P
  have hx := B.exec
  have hb := B.bytes
  have hr := B.returns
  have hlk := B.notSynchronized
  have hts := atoms_spec (ws := ws_ yX3_known cX3_known 2 (some .int)) B.pre
  have hts : ∀ w ∈ lw_all, w.before _ s = true := fun w h => hts w (List.mem_cons_of_mem _ h)
  have hown : s.vm.findClass RX3 = some m.cls := findClass_of_methodNamed B.named
  subst hsz
  have hK := hYK.1
  have hP0 := hP
  have hS : va_S (aA 13 h s.heap.size) s.heap s.heap [] := va_S.rf
  have hl := lv_entry [.ref (h 2), .int (nI g)] (n := 2) (Nat.le_of_ble_eq_true rfl)
  rw [lg_entry_eq]
  generalize (lg_sl [.ref (h 2), .int (nI g)] ++ List.replicate (2 - (lg_sl [.ref (h 2), .int (nI g)]).length) Slot.unset).toArray = ls at hl ⊢
  have hl : lv_has ls 2 [(0, .ref (h 2)), (1, .int (nI g))] := hl
  have hw : fW g = nI w := hw
  refine lv_iconst (v := 5) hx hb dX3_known_0 (by decide) ?_
  refine lv_aload_n hx hb dX3_known_1 rfl (lv_at hl 0 rfl) ?_
  refine va_get (D := Y.1) (ci := 2) (v := .ref (h 12)) (C := RX3) (T := TX3) (N := 6) hx hb hts in_X3 hown hK hP 2 rfl rfl 4 (by decide) (hts _ q85) (fun _ h9 => h9) rfl dX3_known_2 ?_
  refine lv_iload_n hx hb dX3_known_5 rfl (lv_at hl 1 rfl) ?_
  refine y_iald hx hb hK hP 12 0 fW rfl rfl g (by omega) (by decide) dX3_known_6 ?_
  refine xi_eq (nI w) (hw) ?_
  refine va_mmin hx hb (hml.trans hl.1.symm) hown (hts _ q227) (hts _ q228) (hts _ q19) (hts _ q229) (Nat.le_of_ble_eq_true rfl) (Nat.le_of_ble_eq_true rfl) (Nat.le_of_ble_eq_true rfl) (Nat.le_of_ble_eq_true rfl) dX3_known_7 ?_
  refine xi_eq (nI (min 5 w)) (min5 hw2) ?_
  exact xiret hx hb hr hlk hS dX3_known_10 (⟨rfl, hP⟩)
set_option maxHeartbeats 4000000 in
theorem mX3_batch (l : Launch) (Y : YT) (h : Nat → Nat) (hh : aD 13 h) (sz : Nat) (L : Lg) (P : Pg) (g i w : Nat) (hg : g < 2000) (hw : pW P g = nI w) (hi : i < w) (hw2 : w < 2 ^ 31) : XMet l yX3_batch (ws_ yX3_batch cX3_batch 3 (some .int)) ({ frames := 0, cells := 0, slots := 0, locals := 0 }) (bPre Y h L P sz [.ref (h 2), .int (nI g), .int (nI i)]) (xQ (pI (pA P (5 * g + (w - 1 - i) % 5)) (bH Y h L P)) (aA 13 h sz)) 0 0 (aA 13 h sz) := by
  refine XMet.ofW (cc := cX3_batch) (maxL := 3) (ret := (some .int)) (by decide) rfl ?_
  intro p e s m args below meth c s₁ B hml hno hv
  obtain ⟨rfl, hsz, hP, hYK⟩ := hv
  obtain ⟨⟨n, e0⟩, fB, fP, fX, fS, fL⟩ := L
  obtain ⟨pn, fK, fT, fO, fA, fW⟩ := P
  have hx := B.exec
  have hb := B.bytes
  have hr := B.returns
  have hlk := B.notSynchronized
  have hts := atoms_spec (ws := ws_ yX3_batch cX3_batch 3 (some .int)) B.pre
  have hts : ∀ w ∈ lw_all, w.before _ s = true := fun w h => hts w (List.mem_cons_of_mem _ h)
  have hown : s.vm.findClass RX3 = some m.cls := findClass_of_methodNamed B.named
  subst hsz
  have hK := hYK.1
  have hP0 := hP
  have hS : va_S (aA 13 h s.heap.size) s.heap s.heap [] := va_S.rf
  have hl := lv_entry [.ref (h 2), .int (nI g), .int (nI i)] (n := 3) (Nat.le_of_ble_eq_true rfl)
  rw [lg_entry_eq]
  generalize (lg_sl [.ref (h 2), .int (nI g), .int (nI i)] ++ List.replicate (3 - (lg_sl [.ref (h 2), .int (nI g), .int (nI i)]).length) Slot.unset).toArray = ls at hl ⊢
  have hl : lv_has ls 3 [(0, .ref (h 2)), (1, .int (nI g)), (2, .int (nI i))] := hl
  have hw : fW g = nI w := hw
  refine lv_aload_n hx hb dX3_batch_0 rfl (lv_at hl 0 rfl) ?_
  refine va_get (D := Y.1) (ci := 2) (v := .ref (h 11)) (C := RX3) (T := TX3) (N := 6) hx hb hts in_X3 hown hK hP 2 rfl rfl 3 (by decide) (hts _ q84) (fun _ h9 => h9) rfl dX3_batch_1 ?_
  refine lv_iconst (v := 5) hx hb dX3_batch_4 (by decide) ?_
  refine lv_iload_n hx hb dX3_batch_5 rfl (lv_at hl 1 rfl) ?_
  refine lv_imul hx hb dX3_batch_6 ?_
  refine xi_eq (nI (5 * g)) (i5_mul g) ?_
  refine lv_aload_n hx hb dX3_batch_7 rfl (lv_at hl 0 rfl) ?_
  refine va_get (D := Y.1) (ci := 2) (v := .ref (h 12)) (C := RX3) (T := TX3) (N := 6) hx hb hts in_X3 hown hK hP 2 rfl rfl 4 (by decide) (hts _ q85) (fun _ h9 => h9) rfl dX3_batch_8 ?_
  refine lv_iload_n hx hb dX3_batch_11 rfl (lv_at hl 1 rfl) ?_
  refine y_iald hx hb hK hP 12 0 fW rfl rfl g (by omega) (by decide) dX3_batch_12 ?_
  refine xi_eq (nI w) (hw) ?_
  refine lv_iconst (v := 1) hx hb dX3_batch_13 (by decide) ?_
  refine lv_isub hx hb dX3_batch_14 ?_
  refine xi_eq (nI (w - 1)) (pk_sub (b := 1) (by omega)) ?_
  refine lv_iload_n hx hb dX3_batch_15 rfl (lv_at hl 2 rfl) ?_
  refine lv_isub hx hb dX3_batch_16 ?_
  refine xi_eq (nI (w - 1 - i)) (pk_sub (by omega)) ?_
  refine lv_iconst (v := 5) hx hb dX3_batch_17 (by decide) ?_
  refine lv_irem hx hb dX3_batch_18 (by decide) ?_
  refine xi_eq (nI ((w - 1 - i) % 5)) (i5_rem (by omega)) ?_
  refine lv_iadd hx hb dX3_batch_19 ?_
  refine xi_eq (nI (5 * g + (w - 1 - i) % 5)) (nI_add _ _) ?_
  refine y_sald hx hb hK hP 11 2 fA rfl rfl (5 * g + (w - 1 - i) % 5) (by omega) (by decide) dX3_batch_20 ?_
  exact xiret hx hb hr hlk hS dX3_batch_21 (⟨rfl, hP⟩)
end
section
/-! ProducerBook$Pages: write, rewrite (written by prog/pages2.py) -/
set_option maxRecDepth 100000
set_option maxHeartbeats 4000000 in
theorem mX3_write (l : Launch) (Y : YT) (h : Nat → Nat) (hh : aD 13 h) (sz : Nat) (L : Lg) (P : Pg) (m1 : Nat) (hm : m1 < 2000) (hok : PgOK (gP L) m1 P) (hk0 : pK P m1 = 0) : XMet l yX3_write (ws_ yX3_write cX3_write 7 none) ({ frames := 2, cells := 0, slots := 0, locals := 46 }) (bPre Y h L P sz [.ref (h 2), .int (nI m1)]) (xQ (pV (fun H => ∃ P2, PgOK (gP L) (m1 + 1) P2 ∧ bH Y h L P2 H)) (aA 13 h sz)) 0 0 (aA 13 h sz) := by
  refine XMet.ofW (cc := cX3_write) (maxL := 7) (ret := none) (by decide) rfl ?_
  intro p e s m args below meth c s₁ B hml hno hv
  obtain ⟨rfl, hsz, hP, hYK⟩ := hv
  obtain ⟨⟨n, e0⟩, fB, fP, fX, fS, fL⟩ := L
  obtain ⟨pn, fK, fT, fO, fA, fW⟩ := P
  have hx := B.exec
  have hb := B.bytes
  have hr := B.returns
  have hlk := B.notSynchronized
  have hts := atoms_spec (ws := ws_ yX3_write cX3_write 7 none) B.pre
  have hts : ∀ w ∈ lw_all, w.before _ s = true := fun w h => hts w (List.mem_cons_of_mem _ h)
  have hown : s.vm.findClass RX3 = some m.cls := findClass_of_methodNamed B.named
  subst hsz
  have hK := hYK.1
  have hP0 := hP
  have hS : va_S (aA 13 h s.heap.size) s.heap s.heap [] := va_S.rf
  have hl := lv_entry [.ref (h 2), .int (nI m1)] (n := 7) (Nat.le_of_ble_eq_true rfl)
  rw [lg_entry_eq]
  generalize (lg_sl [.ref (h 2), .int (nI m1)] ++ List.replicate (7 - (lg_sl [.ref (h 2), .int (nI m1)]).length) Slot.unset).toArray = ls at hl ⊢
  have hl : lv_has ls 7 [(0, .ref (h 2)), (1, .int (nI m1))] := hl
  refine lv_aload_n hx hb dX3_write_0 rfl (lv_at hl 0 rfl) ?_
  refine va_get (D := Y.1) (ci := 2) (v := .ref (h 1)) (C := RX3) (T := TX3) (N := 6) hx hb hts in_X3 hown hK hP 2 rfl rfl 0 (by decide) (hts _ q81) (fun _ h9 => h9) rfl dX3_write_1 ?_
  refine va_get (D := Y.1) (ci := 1) (v := .ref (h 4)) (C := RX2) (T := TX2) (N := 8) hx hb hts in_X2 hown hK hP 1 rfl rfl 1 (by decide) (hts _ q38) (fun _ h9 => h9) rfl dX3_write_4 ?_
  refine lv_iload_n hx hb dX3_write_7 rfl (lv_at hl 1 rfl) ?_
  refine y_lald hx hb hK hP 4 1 fP rfl rfl m1 (by omega) (by decide) dX3_write_8 ?_
  refine lv_lstore_n (lv' := [(2, .long (fP m1)), (0, .ref (h 2)), (1, .int (nI m1))]) hx hb dX3_write_9 rfl hl (by decide) rfl (fun ls hl => ?_)
  refine lv_lload_n hx hb dX3_write_10 rfl (lv_at hl 0 rfl) ?_
  refine lv_ldc2 hx hb hown (hts _ q124) dX3_write_11 ?_
  refine W.lcmp hx hb dX3_write_14 ?_
  refine lv_if_ne (tgt := 19) hx hb dX3_write_15 (by decide) (fun c_15 => ?_) (fun c_15 => ?_)
  · have hm1 : fP m1 ≠ -1 := ne_m1 c_15
    refine lv_aload_n hx hb dX3_write_19 rfl (lv_at hl 1 rfl) ?_
    refine lv_lload_n hx hb dX3_write_20 rfl (lv_at hl 0 rfl) ?_
    refine xgoE (xrunV (As := [.long (fP m1)]) (rest := []) ⟨hx, hb, hml, hown, hts⟩ (mX3_slot l Y h hh s.heap.size _ _ (fP m1) hok.2.2.2.2.2.2.2 (Nat.le_trans hok.le (by omega))) (cwV 1 hts (lw_V q125 q127 qs0 q13 q128) rfl rfl rfl (by decide +kernel) ⟨Nat.le_of_ble_eq_true rfl, Nat.le_of_ble_eq_true rfl⟩) ⟨bPre_bl, va_recv hK hP (ci := 2) (q0 := 2) rfl rfl, fun U hU hW => ⟨rfl, by rw [hU], by rw [hU]; exact hP, hYK.moved hW.alike⟩⟩ rfl rfl hl.1 rfl (lv_room (Nat.le_of_ble_eq_true rfl)) dX3_write_21 ⟨Nat.le_of_ble_eq_true rfl, Nat.le_of_ble_eq_true rfl⟩) hS (fun q _ h => aA.le hS.1 h) (fun q h => aA.le hS.1 h) (fun r21 H locs hP hz hk hS => ?_)
    obtain ⟨⟨i, rfl, hs⟩, hP⟩ := hP
    have hi := slot_lt hs
    refine lv_istore (lv' := [(4, .int (nI i)), (2, .long (fP m1)), (0, .ref (h 2)), (1, .int (nI m1))]) hx hb dX3_write_24 hl (by decide) rfl (fun ls hl => ?_)
    have join : ∀ (g pn : Nat) (fK fT : Nat → Int32) (fO : Nat → Int64) (fA fW : Nat → Int32), PgR fP m1 g (pn, fK, fT, fO, fA, fW) → fT i = nI (g + 1) → ∀ (H : Heap) (locs : List Loc), bH Y h ((n, e0), fB, fP, fX, fS, fL) (pn, fK, fT, fO, fA, fW) H → va_S (aA 13 h s.heap.size) s.heap H locs → ∀ (ls : Array Slot), lv_has ls 7 [(4, .int (nI i)), (2, .long (fP m1)), (0, .ref (h 2)), (1, .int (nI m1))] → W p l e (headSpec (ws_ yX3_write cX3_write 7 none) ({ frames := 2, cells := 0, slots := 0, locals := 46 })).room s m ([.ref (h 2), .int (nI m1)] : List Value).toArray below meth c H locs 0 0 (XMQ below (xQ (pV (fun H => ∃ P2, PgOK fP (m1 + 1) P2 ∧ bH Y h ((n, e0), fB, fP, fX, fS, fL) P2 H)) (aA 13 h s.heap.size)) ([.ref (h 2), .int (nI m1)] : List Value).toArray s 0 0 (aA 13 h s.heap.size)) (F0 m 75 ls []) := by
      intro g pn fK fT fO fA fW hR hTi H locs hP hS ls hl
      obtain ⟨hwv, hg, hpl⟩ := pgR_w hR
      have hwv : fW g = nI (cnt fP (fP m1) m1) := hwv
      have hg : g < pn := hg
      have hpl : pn ≤ m1 + 1 := hpl
      have hcl := cnt_le fP (fP m1) m1
      generalize hwe : cnt fP (fP m1) m1 = w at hwv hcl
      refine lv_aload_n hx hb dX3_write_75 rfl (lv_at hl 2 rfl) ?_
      refine va_get (D := Y.1) (ci := 2) (v := .ref (h 9)) (C := RX3) (T := TX3) (N := 6) hx hb hts in_X3 hown hK hP 2 rfl rfl 1 (by decide) (hts _ q82) (fun _ h9 => h9) rfl dX3_write_76 ?_
      refine lv_iload hx hb dX3_write_79 (lv_at hl 0 rfl) ?_
      refine y_sald hx hb hK hP 9 2 fT rfl rfl i (by omega) (by decide) dX3_write_81 ?_
      refine xi_eq (nI (g + 1)) (hTi) ?_
      refine lv_iconst (v := 1) hx hb dX3_write_82 (by decide) ?_
      refine lv_isub hx hb dX3_write_83 ?_
      refine xi_eq (nI g) (nI_pred g) ?_
      refine lv_istore (lv' := [(5, .int (nI g)), (4, .int (nI i)), (2, .long (fP m1)), (0, .ref (h 2)), (1, .int (nI m1))]) hx hb dX3_write_84 hl (by decide) rfl (fun ls hl => ?_)
      refine lv_iconst (v := 5) hx hb dX3_write_86 (by decide) ?_
      refine lv_iload hx hb dX3_write_87 (lv_at hl 0 rfl) ?_
      refine lv_imul hx hb dX3_write_89 ?_
      refine xi_eq (nI (5 * g)) (i5_mul g) ?_
      refine lv_aload_n hx hb dX3_write_90 rfl (lv_at hl 3 rfl) ?_
      refine va_get (D := Y.1) (ci := 2) (v := .ref (h 12)) (C := RX3) (T := TX3) (N := 6) hx hb hts in_X3 hown hK hP 2 rfl rfl 4 (by decide) (hts _ q85) (fun _ h9 => h9) rfl dX3_write_91 ?_
      refine lv_iload hx hb dX3_write_94 (lv_at hl 0 rfl) ?_
      refine y_iald hx hb hK hP 12 0 fW rfl rfl g (by omega) (by decide) dX3_write_96 ?_
      refine xi_eq (nI w) (hwv) ?_
      refine lv_iconst (v := 5) hx hb dX3_write_97 (by decide) ?_
      refine lv_irem hx hb dX3_write_98 (by decide) ?_
      refine xi_eq (nI (w % 5)) (i5_rem (by omega)) ?_
      refine lv_iadd hx hb dX3_write_99 ?_
      refine xi_eq (nI (5 * g + w % 5)) (nI_add _ _) ?_
      refine lv_istore (lv' := [(6, .int (nI (5 * g + w % 5))), (5, .int (nI g)), (4, .int (nI i)), (2, .long (fP m1)), (0, .ref (h 2)), (1, .int (nI m1))]) hx hb dX3_write_100 hl (by decide) rfl (fun ls hl => ?_)
      refine lv_aload_n hx hb dX3_write_102 rfl (lv_at hl 4 rfl) ?_
      refine va_get (D := Y.1) (ci := 2) (v := .ref (h 12)) (C := RX3) (T := TX3) (N := 6) hx hb hts in_X3 hown hK hP 2 rfl rfl 4 (by decide) (hts _ q85) (fun _ h9 => h9) rfl dX3_write_103 ?_
      refine lv_iload hx hb dX3_write_106 (lv_at hl 1 rfl) ?_
      refine y_iald hx hb hK hP 12 0 fW rfl rfl g (by omega) (by decide) dX3_write_108 ?_
      refine xi_eq (nI w) (hwv) ?_
      refine lv_iconst (v := 5) hx hb dX3_write_109 (by decide) ?_
      refine lv_icmp_lt (tgt := 129) hx hb dX3_write_110 (by decide) (fun c_110 => ?_) (fun c_110 => ?_)
      · have hw5 : w < 5 := (nI_ltI (a := w) (b := 5) (by omega) (by decide)).mp c_110
        refine lv_aload_n hx hb dX3_write_129 rfl (lv_at hl 4 rfl) ?_
        refine va_get (D := Y.1) (ci := 2) (v := .ref (h 11)) (C := RX3) (T := TX3) (N := 6) hx hb hts in_X3 hown hK hP 2 rfl rfl 3 (by decide) (hts _ q84) (fun _ h9 => h9) rfl dX3_write_130 ?_
        refine lv_iload hx hb dX3_write_133 (lv_at hl 0 rfl) ?_
        refine lv_iload_n hx hb dX3_write_135 rfl (lv_at hl 5 rfl) ?_
        refine lv_i2s (v := nI m1) hx hb dX3_write_136 (nar_nI (by omega)) ?_
        refine y_sast hx hb hK hP (bk_D hh) hS 11 2 fA rfl rfl (5 * g + w % 5) (by omega) (by decide) (nar_nI (by omega)) dX3_write_137 (fun H locs hP hS => ?_)
        have hP : bH Y h ((n, e0), fB, fP, fX, fS, fL) (pn, fK, fT, fO, (upd fA (5 * g + w % 5) (nI m1)), fW) H := hP
        refine lv_aload_n hx hb dX3_write_138 rfl (lv_at hl 4 rfl) ?_
        refine va_get (D := Y.1) (ci := 2) (v := .ref (h 1)) (C := RX3) (T := TX3) (N := 6) hx hb hts in_X3 hown hK hP 2 rfl rfl 0 (by decide) (hts _ q81) (fun _ h9 => h9) rfl dX3_write_139 ?_
        refine va_get (D := Y.1) (ci := 1) (v := .ref (h 8)) (C := RX2) (T := TX2) (N := 8) hx hb hts in_X2 hown hK hP 1 rfl rfl 5 (by decide) (hts _ q47) (fun _ h9 => h9) rfl dX3_write_142 ?_
        refine lv_iload_n hx hb dX3_write_145 rfl (lv_at hl 5 rfl) ?_
        refine lv_iconst (v := 1) hx hb dX3_write_146 (by decide) ?_
        refine y_zast hx hb hK hP (bk_D hh) hS 8 3 fK rfl rfl m1 (by omega) (by decide) (rfl) dX3_write_147 (fun H locs hP hS => ?_)
        have hP : bH Y h ((n, e0), fB, fP, fX, fS, fL) (pn, (upd fK m1 1), fT, fO, (upd fA (5 * g + w % 5) (nI m1)), fW) H := hP
        refine lv_aload_n hx hb dX3_write_148 rfl (lv_at hl 4 rfl) ?_
        refine va_get (D := Y.1) (ci := 2) (v := .ref (h 12)) (C := RX3) (T := TX3) (N := 6) hx hb hts in_X3 hown hK hP 2 rfl rfl 4 (by decide) (hts _ q85) (fun _ h9 => h9) rfl dX3_write_149 ?_
        refine lv_iload hx hb dX3_write_152 (lv_at hl 1 rfl) ?_
        refine lv_dup2_11 hx hb dX3_write_154 rfl rfl ?_
        refine y_iald hx hb hK hP 12 0 fW rfl rfl g (by omega) (by decide) dX3_write_155 ?_
        refine xi_eq (nI w) (hwv) ?_
        refine lv_iconst (v := 1) hx hb dX3_write_156 (by decide) ?_
        refine lv_iadd hx hb dX3_write_157 ?_
        refine xi_eq (nI (w + 1)) (nI_1 w) ?_
        refine y_iast hx hb hK hP (bk_D hh) hS 12 0 fW rfl rfl g (by omega) (by decide) dX3_write_158 (fun H locs hP hS => ?_)
        have hP : bH Y h ((n, e0), fB, fP, fX, fS, fL) (pn, (upd fK m1 1), fT, fO, (upd fA (5 * g + w % 5) (nI m1)), (upd fW g (nI (w + 1)))) H := hP
        exact xvret hx hb hr hlk hS dX3_write_159 (⟨rfl, _, pg_put hR _ (fun k hk => by show upd fK m1 1 k = _; rw [pk_un (by omega), if_neg (fun z => by omega)]) pk_us, by rw [hwe]; exact hP⟩)
      · have hw5 : 5 ≤ w := Nat.not_lt.mp (fun z => c_110 ((nI_ltI (a := w) (b := 5) (by omega) (by decide)).mpr z))
        obtain ⟨k4, hk4, h4, h4v⟩ := pgR_4 hR (by rw [hwe]; exact hw5)
        have h4v : fA (5 * g + w % 5) = nI k4 := by rw [← hwe]; exact h4v
        refine lv_aload_n hx hb dX3_write_113 rfl (lv_at hl 4 rfl) ?_
        refine va_get (D := Y.1) (ci := 2) (v := .ref (h 1)) (C := RX3) (T := TX3) (N := 6) hx hb hts in_X3 hown hK hP 2 rfl rfl 0 (by decide) (hts _ q81) (fun _ h9 => h9) rfl dX3_write_114 ?_
        refine va_get (D := Y.1) (ci := 1) (v := .ref (h 8)) (C := RX2) (T := TX2) (N := 8) hx hb hts in_X2 hown hK hP 1 rfl rfl 5 (by decide) (hts _ q47) (fun _ h9 => h9) rfl dX3_write_117 ?_
        refine lv_aload_n hx hb dX3_write_120 rfl (lv_at hl 4 rfl) ?_
        refine va_get (D := Y.1) (ci := 2) (v := .ref (h 11)) (C := RX3) (T := TX3) (N := 6) hx hb hts in_X3 hown hK hP 2 rfl rfl 3 (by decide) (hts _ q84) (fun _ h9 => h9) rfl dX3_write_121 ?_
        refine lv_iload hx hb dX3_write_124 (lv_at hl 0 rfl) ?_
        refine y_sald hx hb hK hP 11 2 fA rfl rfl (5 * g + w % 5) (by omega) (by decide) dX3_write_126 ?_
        refine xi_eq (nI k4) (h4v) ?_
        refine lv_iconst (v := 0) hx hb dX3_write_127 (by decide) ?_
        refine y_zast hx hb hK hP (bk_D hh) hS 8 3 fK rfl rfl k4 (by omega) (by decide) (rfl) dX3_write_128 (fun H locs hP hS => ?_)
        have hP : bH Y h ((n, e0), fB, fP, fX, fS, fL) (pn, (upd fK k4 0), fT, fO, fA, fW) H := hP
        refine lv_aload_n hx hb dX3_write_129 rfl (lv_at hl 4 rfl) ?_
        refine va_get (D := Y.1) (ci := 2) (v := .ref (h 11)) (C := RX3) (T := TX3) (N := 6) hx hb hts in_X3 hown hK hP 2 rfl rfl 3 (by decide) (hts _ q84) (fun _ h9 => h9) rfl dX3_write_130 ?_
        refine lv_iload hx hb dX3_write_133 (lv_at hl 0 rfl) ?_
        refine lv_iload_n hx hb dX3_write_135 rfl (lv_at hl 5 rfl) ?_
        refine lv_i2s (v := nI m1) hx hb dX3_write_136 (nar_nI (by omega)) ?_
        refine y_sast hx hb hK hP (bk_D hh) hS 11 2 fA rfl rfl (5 * g + w % 5) (by omega) (by decide) (nar_nI (by omega)) dX3_write_137 (fun H locs hP hS => ?_)
        have hP : bH Y h ((n, e0), fB, fP, fX, fS, fL) (pn, (upd fK k4 0), fT, fO, (upd fA (5 * g + w % 5) (nI m1)), fW) H := hP
        refine lv_aload_n hx hb dX3_write_138 rfl (lv_at hl 4 rfl) ?_
        refine va_get (D := Y.1) (ci := 2) (v := .ref (h 1)) (C := RX3) (T := TX3) (N := 6) hx hb hts in_X3 hown hK hP 2 rfl rfl 0 (by decide) (hts _ q81) (fun _ h9 => h9) rfl dX3_write_139 ?_
        refine va_get (D := Y.1) (ci := 1) (v := .ref (h 8)) (C := RX2) (T := TX2) (N := 8) hx hb hts in_X2 hown hK hP 1 rfl rfl 5 (by decide) (hts _ q47) (fun _ h9 => h9) rfl dX3_write_142 ?_
        refine lv_iload_n hx hb dX3_write_145 rfl (lv_at hl 5 rfl) ?_
        refine lv_iconst (v := 1) hx hb dX3_write_146 (by decide) ?_
        refine y_zast hx hb hK hP (bk_D hh) hS 8 3 (upd fK k4 0) rfl rfl m1 (by omega) (by decide) (rfl) dX3_write_147 (fun H locs hP hS => ?_)
        have hP : bH Y h ((n, e0), fB, fP, fX, fS, fL) (pn, (upd (upd fK k4 0) m1 1), fT, fO, (upd fA (5 * g + w % 5) (nI m1)), fW) H := hP
        refine lv_aload_n hx hb dX3_write_148 rfl (lv_at hl 4 rfl) ?_
        refine va_get (D := Y.1) (ci := 2) (v := .ref (h 12)) (C := RX3) (T := TX3) (N := 6) hx hb hts in_X3 hown hK hP 2 rfl rfl 4 (by decide) (hts _ q85) (fun _ h9 => h9) rfl dX3_write_149 ?_
        refine lv_iload hx hb dX3_write_152 (lv_at hl 1 rfl) ?_
        refine lv_dup2_11 hx hb dX3_write_154 rfl rfl ?_
        refine y_iald hx hb hK hP 12 0 fW rfl rfl g (by omega) (by decide) dX3_write_155 ?_
        refine xi_eq (nI w) (hwv) ?_
        refine lv_iconst (v := 1) hx hb dX3_write_156 (by decide) ?_
        refine lv_iadd hx hb dX3_write_157 ?_
        refine xi_eq (nI (w + 1)) (nI_1 w) ?_
        refine y_iast hx hb hK hP (bk_D hh) hS 12 0 fW rfl rfl g (by omega) (by decide) dX3_write_158 (fun H locs hP hS => ?_)
        have hP : bH Y h ((n, e0), fB, fP, fX, fS, fL) (pn, (upd (upd fK k4 0) m1 1), fT, fO, (upd fA (5 * g + w % 5) (nI m1)), (upd fW g (nI (w + 1)))) H := hP
        exact xvret hx hb hr hlk hS dX3_write_159 (⟨rfl, _, pg_put hR _ (fun k hk => by show upd (upd fK k4 0) m1 1 k = _; rw [pk_un (by omega), hwe, h4]; exact ite_k4 hw5) pk_us, by rw [hwe]; exact hP⟩)
    refine lv_aload_n hx hb dX3_write_26 rfl (lv_at hl 2 rfl) ?_
    refine va_get (D := Y.1) (ci := 2) (v := .ref (h 9)) (C := RX3) (T := TX3) (N := 6) hx hb hts in_X3 hown hK hP 2 rfl rfl 1 (by decide) (hts _ q82) (fun _ h9 => h9) rfl dX3_write_27 ?_
    refine lv_iload hx hb dX3_write_30 (lv_at hl 0 rfl) ?_
    refine y_sald hx hb hK hP 9 2 fT rfl rfl i (by omega) (by decide) dX3_write_32 ?_
    refine lv_if_ne (tgt := 75) hx hb dX3_write_33 (by decide) (fun c_33 => ?_) (fun c_33 => ?_)
    · obtain ⟨g, hg, hTi, hoi⟩ : ∃ g, g < pn ∧ fT i = nI (g + 1) ∧ fO g = fP m1 := by
        obtain ⟨d, -, e, -, hz⟩ := hs
        rcases hz with z | z
        · exact absurd z c_33
        · exact z
      exact join g _ _ _ _ _ _ (pgR_old hok hg hoi) hTi _ _ hP hS ls (lv_sub hl [0, 1, 2, 3] rfl)
    · refine lv_aload_n hx hb dX3_write_36 rfl (lv_at hl 2 rfl) ?_
      refine va_get (D := Y.1) (ci := 2) (v := .ref (h 10)) (C := RX3) (T := TX3) (N := 6) hx hb hts in_X3 hown hK hP 2 rfl rfl 2 (by decide) (hts _ q83) (fun _ h9 => h9) rfl dX3_write_37 ?_
      refine lv_aload_n hx hb dX3_write_40 rfl (lv_at hl 2 rfl) ?_
      refine va_get (D := Y.1) (ci := 2) (v := .int (nI pn)) (C := RX3) (T := TX3) (N := 6) hx hb hts in_X3 hown hK hP 2 rfl rfl 5 (by decide) (hts _ q86) (fun _ h9 => h9) rfl dX3_write_41 ?_
      refine lv_lload_n hx hb dX3_write_44 rfl (lv_at hl 1 rfl) ?_
      refine y_last hx hb hK hP (bk_D hh) hS 10 1 fO rfl rfl pn (by have : pn ≤ m1 := hok.le; omega) (by decide) dX3_write_45 (fun H locs hP hS => ?_)
      have hP : bH Y h ((n, e0), fB, fP, fX, fS, fL) (pn, fK, fT, (vp_updL fO pn (fP m1)), fA, fW) H := hP
      refine lv_aload_n hx hb dX3_write_46 rfl (lv_at hl 2 rfl) ?_
      refine va_get (D := Y.1) (ci := 2) (v := .ref (h 12)) (C := RX3) (T := TX3) (N := 6) hx hb hts in_X3 hown hK hP 2 rfl rfl 4 (by decide) (hts _ q85) (fun _ h9 => h9) rfl dX3_write_47 ?_
      refine lv_aload_n hx hb dX3_write_50 rfl (lv_at hl 2 rfl) ?_
      refine va_get (D := Y.1) (ci := 2) (v := .int (nI pn)) (C := RX3) (T := TX3) (N := 6) hx hb hts in_X3 hown hK hP 2 rfl rfl 5 (by decide) (hts _ q86) (fun _ h9 => h9) rfl dX3_write_51 ?_
      refine lv_iconst (v := 0) hx hb dX3_write_54 (by decide) ?_
      refine y_iast hx hb hK hP (bk_D hh) hS 12 0 fW rfl rfl pn (by have : pn ≤ m1 := hok.le; omega) (by decide) dX3_write_55 (fun H locs hP hS => ?_)
      have hP : bH Y h ((n, e0), fB, fP, fX, fS, fL) (pn, fK, fT, (vp_updL fO pn (fP m1)), fA, (upd fW pn 0)) H := hP
      refine lv_aload_n hx hb dX3_write_56 rfl (lv_at hl 2 rfl) ?_
      refine va_get (D := Y.1) (ci := 2) (v := .ref (h 9)) (C := RX3) (T := TX3) (N := 6) hx hb hts in_X3 hown hK hP 2 rfl rfl 1 (by decide) (hts _ q82) (fun _ h9 => h9) rfl dX3_write_57 ?_
      refine lv_iload hx hb dX3_write_60 (lv_at hl 0 rfl) ?_
      refine lv_aload_n hx hb dX3_write_62 rfl (lv_at hl 2 rfl) ?_
      refine lv_dup hx hb dX3_write_63 rfl ?_
      refine va_get (D := Y.1) (ci := 2) (v := .int (nI pn)) (C := RX3) (T := TX3) (N := 6) hx hb hts in_X3 hown hK hP 2 rfl rfl 5 (by decide) (hts _ q86) (fun _ h9 => h9) rfl dX3_write_64 ?_
      refine lv_iconst (v := 1) hx hb dX3_write_67 (by decide) ?_
      refine lv_iadd hx hb dX3_write_68 ?_
      refine xi_eq (nI (pn + 1)) (nI_1 pn) ?_
      refine lv_dup_x1 hx hb dX3_write_69 rfl rfl ?_
      refine va_put (D := Y.1) (ci := 2) (v := .int (nI (pn + 1))) (ty := .int) (C := RX3) (T := TX3) (N := 6) hx hb hts in_X3 tyX3 tyX3_ok nmX3 hown hK hP (bk_D hh) hS 2 rfl rfl 5 (by decide) (hts _ q86) (fun _ h9 => h9) rfl (by decide +kernel) rfl rfl (Nat.le_of_ble_eq_true rfl) dX3_write_70 (fun H locs hP _ hS => ?_)
      have hP : bH Y h ((n, e0), fB, fP, fX, fS, fL) ((pn + 1), fK, fT, (vp_updL fO pn (fP m1)), fA, (upd fW pn 0)) H := hP
      refine lv_i2s (v := nI (pn + 1)) hx hb dX3_write_73 (nar_nI (by have : pn ≤ m1 := hok.le; omega)) ?_
      refine y_sast hx hb hK hP (bk_D hh) hS 9 2 fT rfl rfl i (by omega) (by decide) (nar_nI (by have : pn ≤ m1 := hok.le; omega)) dX3_write_74 (fun H locs hP hS => ?_)
      have hP : bH Y h ((n, e0), fB, fP, fX, fS, fL) ((pn + 1), fK, (upd fT i (nI (pn + 1))), (vp_updL fO pn (fP m1)), fA, (upd fW pn 0)) H := hP
      exact join pn _ _ _ _ _ _ (pgR_new hok hm hm1 hs c_33) pk_us _ _ hP hS ls (lv_sub hl [0, 1, 2, 3] rfl)
  · have hm1 : fP m1 = -1 := eq_m1 c_15
    exact xvret hx hb hr hlk hS dX3_write_18 (⟨rfl, _, pg_skip hok hm1 hk0, hP⟩)
set_option maxHeartbeats 4000000 in
theorem mX3_rewrite (l : Launch) (Y : YT) (h : Nat → Nat) (hh : aD 13 h) (sz : Nat) (L : Lg) (P : Pg) (hn : gN L ≤ 2000) : XMet l yX3_rewrite (ws_ yX3_rewrite cX3_rewrite 2 none) ({ frames := 3, cells := 0, slots := 0, locals := 72 }) (bPre Y h L P sz [.ref (h 2)]) (xQ (pV (fun H => ∃ P2, PgOK (gP L) (gN L) P2 ∧ bH Y h L P2 H)) (aA 13 h sz)) 0 0 (aA 13 h sz) := by
  refine XMet.ofW (cc := cX3_rewrite) (maxL := 2) (ret := none) (by decide) rfl ?_
  intro p e s m args below meth c s₁ B hml hno hv
  obtain ⟨rfl, hsz, hP, hYK⟩ := hv
  obtain ⟨⟨n, e0⟩, fB, fP, fX, fS, fL⟩ := L
  obtain ⟨pn, fK, fT, fO, fA, fW⟩ := P
  have hx := B.exec
  have hb := B.bytes
  have hr := B.returns
  have hlk := B.notSynchronized
  have hts := atoms_spec (ws := ws_ yX3_rewrite cX3_rewrite 2 none) B.pre
  have hts : ∀ w ∈ lw_all, w.before _ s = true := fun w h => hts w (List.mem_cons_of_mem _ h)
  have hown : s.vm.findClass RX3 = some m.cls := findClass_of_methodNamed B.named
  subst hsz
  have hK := hYK.1
  have hP0 := hP
  have hS : va_S (aA 13 h s.heap.size) s.heap s.heap [] := va_S.rf
  have hl := lv_entry [.ref (h 2)] (n := 2) (Nat.le_of_ble_eq_true rfl)
  rw [lg_entry_eq]
  generalize (lg_sl [.ref (h 2)] ++ List.replicate (2 - (lg_sl [.ref (h 2)]).length) Slot.unset).toArray = ls at hl ⊢
  have hl : lv_has ls 2 [(0, .ref (h 2))] := hl
  have hn : n ≤ 2000 := hn
  refine lv_aload_n hx hb dX3_rewrite_0 rfl (lv_at hl 0 rfl) ?_
  refine lv_iconst (v := 0) hx hb dX3_rewrite_1 (by decide) ?_
  refine xi_eq (nI 0) (nI_0.symm) ?_
  refine va_put (D := Y.1) (ci := 2) (v := .int (nI 0)) (ty := .int) (C := RX3) (T := TX3) (N := 6) hx hb hts in_X3 tyX3 tyX3_ok nmX3 hown hK hP (bk_D hh) hS 2 rfl rfl 5 (by decide) (hts _ q86) (fun _ h9 => h9) rfl (by decide +kernel) rfl rfl (Nat.le_of_ble_eq_true rfl) dX3_rewrite_2 (fun H locs hP _ hS => ?_)
  have hP : bH Y h ((n, e0), fB, fP, fX, fS, fL) (0, fK, fT, fO, fA, fW) H := hP
  refine lv_iconst (v := 0) hx hb dX3_rewrite_5 (by decide) ?_
  refine xi_eq (nI 0) (nI_0.symm) ?_
  refine lv_istore_n (lv' := [(1, .int (nI 0)), (0, .ref (h 2))]) hx hb dX3_rewrite_6 rfl hl (by decide) rfl (fun ls hl => ?_)
  have loop : ∀ (k j : Nat) (fT : Nat → Int32), j + k = 4096 → (∀ q, q < j → fT q = 0) → ∀ (H : Heap) (locs : List Loc), bH Y h ((n, e0), fB, fP, fX, fS, fL) (0, fK, fT, fO, fA, fW) H → va_S (aA 13 h s.heap.size) s.heap H locs → ∀ (ls : Array Slot), lv_has ls 2 [(1, .int (nI j)), (0, .ref (h 2))] → W p l e (headSpec (ws_ yX3_rewrite cX3_rewrite 2 none) ({ frames := 3, cells := 0, slots := 0, locals := 72 })).room s m ([.ref (h 2)] : List Value).toArray below meth c H locs 0 0 (XMQ below (xQ (pV (fun H => ∃ P2, PgOK fP n P2 ∧ bH Y h ((n, e0), fB, fP, fX, fS, fL) P2 H)) (aA 13 h s.heap.size)) ([.ref (h 2)] : List Value).toArray s 0 0 (aA 13 h s.heap.size)) (F0 m 7 ls []) := by
    intro k
    induction k with
    | zero =>
      intro j fT hj h0 H locs hP hS ls hl
      refine lv_iload_n hx hb dX3_rewrite_7 rfl (lv_at hl 0 rfl) ?_
      refine lv_sipush (v := 4096) hx hb dX3_rewrite_8 (by decide) ?_
      refine lv_icmp_ge (tgt := 27) hx hb dX3_rewrite_11 (by decide) (fun c_11 => ?_) (fun c_11 => ?_)
      · refine lv_iconst (v := 0) hx hb dX3_rewrite_27 (by decide) ?_
        refine xi_eq (nI 0) (nI_0.symm) ?_
        refine lv_istore_n (lv' := [(1, .int (nI 0)), (0, .ref (h 2))]) hx hb dX3_rewrite_28 rfl hl (by decide) rfl (fun ls hl => ?_)
        have loop2 : ∀ (k j2 : Nat) (P : Pg), j2 + k = n → PgOK fP j2 P → ∀ (H : Heap) (locs : List Loc), bH Y h ((n, e0), fB, fP, fX, fS, fL) P H → va_S (aA 13 h s.heap.size) s.heap H locs → ∀ (ls : Array Slot), lv_has ls 2 [(1, .int (nI j2)), (0, .ref (h 2))] → W p l e (headSpec (ws_ yX3_rewrite cX3_rewrite 2 none) ({ frames := 3, cells := 0, slots := 0, locals := 72 })).room s m ([.ref (h 2)] : List Value).toArray below meth c H locs 0 0 (XMQ below (xQ (pV (fun H => ∃ P2, PgOK fP n P2 ∧ bH Y h ((n, e0), fB, fP, fX, fS, fL) P2 H)) (aA 13 h s.heap.size)) ([.ref (h 2)] : List Value).toArray s 0 0 (aA 13 h s.heap.size)) (F0 m 29 ls []) := by
          intro k
          induction k with
          | zero =>
            intro j2 P hj hok H locs hP hS ls hl
            obtain ⟨pn, fK, fT, fO, fA, fW⟩ := P
            refine lv_iload_n hx hb dX3_rewrite_29 rfl (lv_at hl 0 rfl) ?_
            refine lv_aload_n hx hb dX3_rewrite_30 rfl (lv_at hl 1 rfl) ?_
            refine va_get (D := Y.1) (ci := 2) (v := .ref (h 1)) (C := RX3) (T := TX3) (N := 6) hx hb hts in_X3 hown hK hP 2 rfl rfl 0 (by decide) (hts _ q81) (fun _ h9 => h9) rfl dX3_rewrite_31 ?_
            refine va_get (D := Y.1) (ci := 1) (v := .int (nI n)) (C := RX2) (T := TX2) (N := 8) hx hb hts in_X2 hown hK hP 1 rfl rfl 6 (by decide) (hts _ q51) (fun _ h9 => h9) rfl dX3_rewrite_34 ?_
            refine lv_icmp_ge (tgt := 61) hx hb dX3_rewrite_37 (by decide) (fun c_37 => ?_) (fun c_37 => ?_)
            · exact xvret hx hb hr hlk hS dX3_rewrite_61 (⟨rfl, _, by rw [show n = j2 by omega]; exact hok, hP⟩)
            · exact absurd ((nI_le (by omega) (by omega) : nI n ≤ nI j2)) c_37
          | succ k ih =>
            intro j2 P hj hok H locs hP hS ls hl
            obtain ⟨pn, fK, fT, fO, fA, fW⟩ := P
            refine lv_iload_n hx hb dX3_rewrite_29 rfl (lv_at hl 0 rfl) ?_
            refine lv_aload_n hx hb dX3_rewrite_30 rfl (lv_at hl 1 rfl) ?_
            refine va_get (D := Y.1) (ci := 2) (v := .ref (h 1)) (C := RX3) (T := TX3) (N := 6) hx hb hts in_X3 hown hK hP 2 rfl rfl 0 (by decide) (hts _ q81) (fun _ h9 => h9) rfl dX3_rewrite_31 ?_
            refine va_get (D := Y.1) (ci := 1) (v := .int (nI n)) (C := RX2) (T := TX2) (N := 8) hx hb hts in_X2 hown hK hP 1 rfl rfl 6 (by decide) (hts _ q51) (fun _ h9 => h9) rfl dX3_rewrite_34 ?_
            refine lv_icmp_ge (tgt := 61) hx hb dX3_rewrite_37 (by decide) (fun c_37 => ?_) (fun c_37 => ?_)
            · exact absurd c_37 ((fun z => absurd ((nI_leI (a := n) (b := j2) (by omega) (by omega)).mp z) (by omega)))
            · refine lv_aload_n hx hb dX3_rewrite_40 rfl (lv_at hl 1 rfl) ?_
              refine va_get (D := Y.1) (ci := 2) (v := .ref (h 1)) (C := RX3) (T := TX3) (N := 6) hx hb hts in_X3 hown hK hP 2 rfl rfl 0 (by decide) (hts _ q81) (fun _ h9 => h9) rfl dX3_rewrite_41 ?_
              refine va_get (D := Y.1) (ci := 1) (v := .ref (h 8)) (C := RX2) (T := TX2) (N := 8) hx hb hts in_X2 hown hK hP 1 rfl rfl 5 (by decide) (hts _ q47) (fun _ h9 => h9) rfl dX3_rewrite_44 ?_
              refine lv_iload_n hx hb dX3_rewrite_47 rfl (lv_at hl 0 rfl) ?_
              refine lv_iconst (v := 0) hx hb dX3_rewrite_48 (by decide) ?_
              refine y_zast hx hb hK hP (bk_D hh) hS 8 3 fK rfl rfl j2 (by omega) (by decide) (rfl) dX3_rewrite_49 (fun H locs hP hS => ?_)
              have hP : bH Y h ((n, e0), fB, fP, fX, fS, fL) (pn, (upd fK j2 0), fT, fO, fA, fW) H := hP
              refine lv_aload_n hx hb dX3_rewrite_50 rfl (lv_at hl 1 rfl) ?_
              refine lv_iload_n hx hb dX3_rewrite_51 rfl (lv_at hl 0 rfl) ?_
              refine xgoV (xrunV (As := [.int (nI j2)]) (rest := []) ⟨hx, hb, hml, hown, hts⟩ (mX3_write l Y h hh H.size _ _ j2 (by omega) (pg_K hok 0) pk_us) (cwV 1 hts (lw_V q120 q121 q122 q13 q123) rfl rfl rfl (by decide +kernel) ⟨Nat.le_of_ble_eq_true rfl, Nat.le_of_ble_eq_true rfl⟩) ⟨bPre_bl, va_recv hK hP (ci := 2) (q0 := 2) rfl rfl, fun U hU hW => ⟨rfl, by rw [hU], by rw [hU]; exact hP, hYK.moved hW.alike⟩⟩ rfl rfl hl.1 rfl (lv_room (Nat.le_of_ble_eq_true rfl)) dX3_rewrite_52 ⟨Nat.le_of_ble_eq_true rfl, Nat.le_of_ble_eq_true rfl⟩) hS (fun q _ h => aA.le hS.1 h) (fun q h => aA.le hS.1 h) (fun H locs hP hz hk hS => ?_)
              obtain ⟨P3, hok3, hP⟩ := hP
              refine lv_iinc (v := nI (j2 + 1)) (lv' := [(1, .int (nI (j2 + 1))), (0, .ref (h 2))]) hx hb dX3_rewrite_55 hl (k := 0) rfl (inc1 _) (by decide) rfl (fun ls hl => ?_)
              refine lv_goto (tgt := 29) hx hb dX3_rewrite_58 (by decide) ?_
              exact ih (j2 + 1) _ (by omega) hok3 _ _ hP hS ls (lv_sub hl [0, 1] rfl)
        exact loop2 n 0 (0, fK, fT, fO, fA, fW) (by omega) (pg_0 rfl (fun q hq => h0 q (by omega))) _ _ hP hS ls (lv_sub hl [0, 1] rfl)
      · exact absurd ((by rw [show j = 4096 by omega]; decide : (4096 : Int32) ≤ nI j)) c_11
    | succ k ih =>
      intro j fT hj h0 H locs hP hS ls hl
      refine lv_iload_n hx hb dX3_rewrite_7 rfl (lv_at hl 0 rfl) ?_
      refine lv_sipush (v := 4096) hx hb dX3_rewrite_8 (by decide) ?_
      refine lv_icmp_ge (tgt := 27) hx hb dX3_rewrite_11 (by decide) (fun c_11 => ?_) (fun c_11 => ?_)
      · exact absurd c_11 ((fun z => absurd ((nI_leI (a := 4096) (b := j) (by decide) (by omega)).mp z) (by omega)))
      · refine lv_aload_n hx hb dX3_rewrite_14 rfl (lv_at hl 1 rfl) ?_
        refine va_get (D := Y.1) (ci := 2) (v := .ref (h 9)) (C := RX3) (T := TX3) (N := 6) hx hb hts in_X3 hown hK hP 2 rfl rfl 1 (by decide) (hts _ q82) (fun _ h9 => h9) rfl dX3_rewrite_15 ?_
        refine lv_iload_n hx hb dX3_rewrite_18 rfl (lv_at hl 0 rfl) ?_
        refine lv_iconst (v := 0) hx hb dX3_rewrite_19 (by decide) ?_
        refine y_sast hx hb hK hP (bk_D hh) hS 9 2 fT rfl rfl j (by omega) (by decide) (rfl) dX3_rewrite_20 (fun H locs hP hS => ?_)
        have hP : bH Y h ((n, e0), fB, fP, fX, fS, fL) (0, fK, (upd fT j 0), fO, fA, fW) H := hP
        refine lv_iinc (v := nI (j + 1)) (lv' := [(1, .int (nI (j + 1))), (0, .ref (h 2))]) hx hb dX3_rewrite_21 hl (k := 0) rfl (inc1 _) (by decide) rfl (fun ls hl => ?_)
        refine lv_goto (tgt := 7) hx hb dX3_rewrite_24 (by decide) ?_
        exact ih (j + 1) _ (by omega) (fun q hq => by by_cases e : q = j <;> simp [upd, e]; exact h0 q (by omega)) _ _ hP hS ls (lv_sub hl [0, 1] rfl)
  exact loop 4096 0 _ rfl (fun q hq => absurd hq (Nat.not_lt_zero _)) _ _ hP hS ls (lv_sub hl [0, 1] rfl)
end
section
/-! ProducerBook: need, may, isBatch, answer, send (written by prog/book1.py) -/
set_option maxRecDepth 100000
set_option maxHeartbeats 4000000 in
theorem mX1_need1 (l : Launch) (sz : Nat)  : XMet l yX1_need (ws_ yX1_need cX1_need 1 none) ({ frames := 0, cells := 0, slots := 0, locals := 0 }) (sPre sz [.int 1]) (xQ (pV (fun _ => True)) (sA sz)) 0 0 (sA sz) := by
  refine XMet.ofW (cc := cX1_need) (maxL := 1) (ret := none) (by decide) rfl ?_
  intro p e s m args below meth c s₁ B hml hno hv
  obtain ⟨rfl, hsz⟩ := hv
  have hx := B.exec
  have hb := B.bytes
  have hr := B.returns
  have hlk := B.notSynchronized
  have hts := atoms_spec (ws := ws_ yX1_need cX1_need 1 none) B.pre
  have hts : ∀ w ∈ lw_all, w.before _ s = true := fun w h => hts w (List.mem_cons_of_mem _ h)
  have hown : s.vm.findClass RX1 = some m.cls := findClass_of_methodNamed B.named
  subst hsz
  have hS : va_S (sA s.heap.size) s.heap s.heap [] := va_S.rf
  have hl := lv_entry [.int 1] (n := 1) (Nat.le_of_ble_eq_true rfl)
  rw [lg_entry_eq]
  generalize (lg_sl [.int 1] ++ List.replicate (1 - (lg_sl [.int 1]).length) Slot.unset).toArray = ls at hl ⊢
  have hl : lv_has ls 1 [(0, .int 1)] := hl
  refine lv_iload_n hx hb dX1_need_0 rfl (lv_at hl 0 rfl) ?_
  refine lv_if_ne (tgt := 12) hx hb dX1_need_1 (by decide) (fun c_1 => ?_) (fun c_1 => ?_)
  · exact xvret hx hb hr hlk hS dX1_need_12 (⟨rfl, trivial⟩)
  · exact absurd c_1 (by decide)
set_option maxHeartbeats 4000000 in
theorem mX1_need0 (l : Launch) (Y : YT) (sz : Nat) (hfl : l.flags = flags0) : XMet l yX1_need (ws_ yX1_need cX1_need 1 none) ({ frames := 6, cells := 1, slots := 6, locals := 81 }) (sPreX Y sz [.int 0]) (xQ (fun o H => ∃ a, o = .threw a ∧ thr Y.2.2.1 a H) (sA sz)) 1 6 (sA sz) := by
  refine XMet.ofW (cc := cX1_need) (maxL := 1) (ret := none) (by decide) rfl ?_
  intro p e s m args below meth c s₁ B hml hno hv
  obtain ⟨rfl, hsz, hYK, hex⟩ := hv
  have hx := B.exec
  have hb := B.bytes
  have hr := B.returns
  have hlk := B.notSynchronized
  have hts := atoms_spec (ws := ws_ yX1_need cX1_need 1 none) B.pre
  have hts : ∀ w ∈ lw_all, w.before _ s = true := fun w h => hts w (List.mem_cons_of_mem _ h)
  have hown : s.vm.findClass RX1 = some m.cls := findClass_of_methodNamed B.named
  subst hsz
  have hS : va_S (sA s.heap.size) s.heap s.heap [] := va_S.rf
  have hl := lv_entry [.int 0] (n := 1) (Nat.le_of_ble_eq_true rfl)
  rw [lg_entry_eq]
  generalize (lg_sl [.int 0] ++ List.replicate (1 - (lg_sl [.int 0]).length) Slot.unset).toArray = ls at hl ⊢
  have hl : lv_has ls 1 [(0, .int 0)] := hl
  refine lv_iload_n hx hb dX1_need_0 rfl (lv_at hl 0 rfl) ?_
  refine lv_if_ne (tgt := 12) hx hb dX1_need_1 (by decide) (fun c_1 => ?_) (fun c_1 => ?_)
  · exact absurd (rfl) c_1
  · exact x_throw hx hb hfl hown (names := upE) (by decide +kernel) (by decide +kernel) (ex_words hts hex ex_in1) (hts _ q149) (hts _ q18) dX1_need_4 dX1_need_7 dX1_need_8 dX1_need_11 hno hlk (hl.1.trans hml.symm) (Nat.le_of_ble_eq_true rfl) (Nat.le_of_ble_eq_true rfl) (Nat.le_of_ble_eq_true rfl) (Nat.le_of_ble_eq_true rfl) (fun a H1 ce h1 h2 h3 => ⟨a, rfl, ce, h1, h2, (Option.some.inj (h3.symm.trans hYK.2.1.1))⟩)
set_option maxHeartbeats 4000000 in
theorem mX1_may1 (l : Launch) (sz : Nat)  : XMet l yX1_may (ws_ yX1_may cX1_may 1 none) ({ frames := 0, cells := 0, slots := 0, locals := 0 }) (sPre sz [.int 1]) (xQ (pV (fun _ => True)) (sA sz)) 0 0 (sA sz) := by
  refine XMet.ofW (cc := cX1_may) (maxL := 1) (ret := none) (by decide) rfl ?_
  intro p e s m args below meth c s₁ B hml hno hv
  obtain ⟨rfl, hsz⟩ := hv
  have hx := B.exec
  have hb := B.bytes
  have hr := B.returns
  have hlk := B.notSynchronized
  have hts := atoms_spec (ws := ws_ yX1_may cX1_may 1 none) B.pre
  have hts : ∀ w ∈ lw_all, w.before _ s = true := fun w h => hts w (List.mem_cons_of_mem _ h)
  have hown : s.vm.findClass RX1 = some m.cls := findClass_of_methodNamed B.named
  subst hsz
  have hS : va_S (sA s.heap.size) s.heap s.heap [] := va_S.rf
  have hl := lv_entry [.int 1] (n := 1) (Nat.le_of_ble_eq_true rfl)
  rw [lg_entry_eq]
  generalize (lg_sl [.int 1] ++ List.replicate (1 - (lg_sl [.int 1]).length) Slot.unset).toArray = ls at hl ⊢
  have hl : lv_has ls 1 [(0, .int 1)] := hl
  refine lv_iload_n hx hb dX1_may_0 rfl (lv_at hl 0 rfl) ?_
  refine lv_if_ne (tgt := 12) hx hb dX1_may_1 (by decide) (fun c_1 => ?_) (fun c_1 => ?_)
  · exact xvret hx hb hr hlk hS dX1_may_12 (⟨rfl, trivial⟩)
  · exact absurd c_1 (by decide)
set_option maxHeartbeats 4000000 in
theorem mX1_may0 (l : Launch) (Y : YT) (sz : Nat) (hfl : l.flags = flags0) : XMet l yX1_may (ws_ yX1_may cX1_may 1 none) ({ frames := 6, cells := 1, slots := 6, locals := 81 }) (sPreX Y sz [.int 0]) (xQ (fun o H => ∃ a, o = .threw a ∧ thr Y.2.2.2 a H) (sA sz)) 1 6 (sA sz) := by
  refine XMet.ofW (cc := cX1_may) (maxL := 1) (ret := none) (by decide) rfl ?_
  intro p e s m args below meth c s₁ B hml hno hv
  obtain ⟨rfl, hsz, hYK, hex⟩ := hv
  have hx := B.exec
  have hb := B.bytes
  have hr := B.returns
  have hlk := B.notSynchronized
  have hts := atoms_spec (ws := ws_ yX1_may cX1_may 1 none) B.pre
  have hts : ∀ w ∈ lw_all, w.before _ s = true := fun w h => hts w (List.mem_cons_of_mem _ h)
  have hown : s.vm.findClass RX1 = some m.cls := findClass_of_methodNamed B.named
  subst hsz
  have hS : va_S (sA s.heap.size) s.heap s.heap [] := va_S.rf
  have hl := lv_entry [.int 0] (n := 1) (Nat.le_of_ble_eq_true rfl)
  rw [lg_entry_eq]
  generalize (lg_sl [.int 0] ++ List.replicate (1 - (lg_sl [.int 0]).length) Slot.unset).toArray = ls at hl ⊢
  have hl : lv_has ls 1 [(0, .int 0)] := hl
  refine lv_iload_n hx hb dX1_may_0 rfl (lv_at hl 0 rfl) ?_
  refine lv_if_ne (tgt := 12) hx hb dX1_may_1 (by decide) (fun c_1 => ?_) (fun c_1 => ?_)
  · exact absurd (rfl) c_1
  · exact x_throw hx hb hfl hown (names := upE) (by decide +kernel) (by decide +kernel) (ex_words hts hex ex_in2) (hts _ q239) (hts _ q20) dX1_may_4 dX1_may_7 dX1_may_8 dX1_may_11 hno hlk (hl.1.trans hml.symm) (Nat.le_of_ble_eq_true rfl) (Nat.le_of_ble_eq_true rfl) (Nat.le_of_ble_eq_true rfl) (Nat.le_of_ble_eq_true rfl) (fun a H1 ce h1 h2 h3 => ⟨a, rfl, ce, h1, h2, (Option.some.inj (h3.symm.trans hYK.2.1.2))⟩)
set_option maxHeartbeats 4000000 in
theorem mX1_isBatch (l : Launch) (Y : YT) (sz : Nat) (hfl : l.flags = flags0) (p1 : Int64) (e1 s1 l1 : Int32) : XMet l yX1_isBatch (ws_ yX1_isBatch cX1_isBatch 5 none) ({ frames := 7, cells := 1, slots := 6, locals := 101 }) (sPreX Y sz [.long p1, .int e1, .int s1, .int l1]) (xQ (fun o H => (okB p1 e1 s1 l1 ∧ o = .returned none) ∨ (¬ okB p1 e1 s1 l1 ∧ ∃ a, o = .threw a ∧ thr Y.2.2.1 a H)) (sA sz)) 1 6 (sA sz) := by
  refine XMet.ofW (cc := cX1_isBatch) (maxL := 5) (ret := none) (by decide) rfl ?_
  intro p e s m args below meth c s₁ B hml hno hv
  obtain ⟨rfl, hsz, hYK, hex⟩ := hv
  have hx := B.exec
  have hb := B.bytes
  have hr := B.returns
  have hlk := B.notSynchronized
  have hts := atoms_spec (ws := ws_ yX1_isBatch cX1_isBatch 5 none) B.pre
  have hts : ∀ w ∈ lw_all, w.before _ s = true := fun w h => hts w (List.mem_cons_of_mem _ h)
  have hown : s.vm.findClass RX1 = some m.cls := findClass_of_methodNamed B.named
  subst hsz
  have hS : va_S (sA s.heap.size) s.heap s.heap [] := va_S.rf
  have hl := lv_entry [.long p1, .int e1, .int s1, .int l1] (n := 5) (Nat.le_of_ble_eq_true rfl)
  rw [lg_entry_eq]
  generalize (lg_sl [.long p1, .int e1, .int s1, .int l1] ++ List.replicate (5 - (lg_sl [.long p1, .int e1, .int s1, .int l1]).length) Slot.unset).toArray = ls at hl ⊢
  have hl : lv_has ls 5 [(0, .long p1), (2, .int e1), (3, .int s1), (4, .int l1)] := hl
  refine lv_iload hx hb dX1_isBatch_0 (lv_at hl 3 rfl) ?_
  refine lv_if_lt (tgt := 25) hx hb dX1_isBatch_2 (by decide) (fun c_2 => ?_) (fun c_2 => ?_)
  · refine lv_iconst (v := 0) hx hb dX1_isBatch_25 (by decide) ?_
    refine xgo (xrunS (As := [.int 0]) (rest := []) ⟨hx, hb, hml, hown, hts⟩ (mX1_need0 l Y s.heap.size hfl) (va_cwS 1 hts (lw_S q146 q147 q11 q148) rfl rfl rfl (by decide +kernel) ⟨Nat.le_of_ble_eq_true rfl, Nat.le_of_ble_eq_true rfl⟩) ⟨sPreX_bl, fun U hU hW => ⟨rfl, by rw [hU], hYK.moved hW.alike, hex.moved hW (by rw [hU]; exact sA_kept hS)⟩⟩ rfl rfl hl.1 rfl (lv_room (Nat.le_of_ble_eq_true rfl)) dX1_isBatch_26 ⟨Nat.le_of_ble_eq_true rfl, Nat.le_of_ble_eq_true rfl⟩) hS (fun q _ h => Nat.le_trans hS.1 h) (fun q h => Nat.le_trans hS.1 h) (fun v H locs hv hz hk hS => ?_) (fun x H locs hv hz hk hS => ?_)
    · obtain ⟨a, ha, -⟩ := hv
      cases ha
    · obtain ⟨a, ha, hth⟩ := hv
      cases ha
      exact wt_out hno hlk hS (Or.inr ⟨fun z => by obtain ⟨⟨z1, z2, z3⟩, z4⟩ := z; first | exact absurd c_2 (i32_le.mpr z1) | exact absurd z2 (i32_le.mpr c_10) | exact absurd c_18 (i64_le.mpr z3) | (rcases z4 with ⟨z5, z6, z7⟩ | ⟨z5, z6, z7, z8⟩ <;> first | exact absurd c_34 z5 | exact absurd z5 c_34 | exact absurd z6 c_39 | exact absurd z7 c_44 | exact absurd c_56 (i32_le.mpr z6) | exact absurd c_63 (i32_le.mpr z7) | exact absurd c_67 (i32_le.mpr z8)), _, rfl, hth⟩)
  · refine lv_iload hx hb dX1_isBatch_5 (lv_at hl 3 rfl) ?_
    refine lv_sipush (v := 1000) hx hb dX1_isBatch_7 (by decide) ?_
    refine lv_icmp_ge (tgt := 25) hx hb dX1_isBatch_10 (by decide) (fun c_10 => ?_) (fun c_10 => ?_)
    · refine lv_iconst (v := 0) hx hb dX1_isBatch_25 (by decide) ?_
      refine xgo (xrunS (As := [.int 0]) (rest := []) ⟨hx, hb, hml, hown, hts⟩ (mX1_need0 l Y s.heap.size hfl) (va_cwS 1 hts (lw_S q146 q147 q11 q148) rfl rfl rfl (by decide +kernel) ⟨Nat.le_of_ble_eq_true rfl, Nat.le_of_ble_eq_true rfl⟩) ⟨sPreX_bl, fun U hU hW => ⟨rfl, by rw [hU], hYK.moved hW.alike, hex.moved hW (by rw [hU]; exact sA_kept hS)⟩⟩ rfl rfl hl.1 rfl (lv_room (Nat.le_of_ble_eq_true rfl)) dX1_isBatch_26 ⟨Nat.le_of_ble_eq_true rfl, Nat.le_of_ble_eq_true rfl⟩) hS (fun q _ h => Nat.le_trans hS.1 h) (fun q h => Nat.le_trans hS.1 h) (fun v H locs hv hz hk hS => ?_) (fun x H locs hv hz hk hS => ?_)
      · obtain ⟨a, ha, -⟩ := hv
        cases ha
      · obtain ⟨a, ha, hth⟩ := hv
        cases ha
        exact wt_out hno hlk hS (Or.inr ⟨fun z => by obtain ⟨⟨z1, z2, z3⟩, z4⟩ := z; first | exact absurd c_2 (i32_le.mpr z1) | exact absurd z2 (i32_le.mpr c_10) | exact absurd c_18 (i64_le.mpr z3) | (rcases z4 with ⟨z5, z6, z7⟩ | ⟨z5, z6, z7, z8⟩ <;> first | exact absurd c_34 z5 | exact absurd z5 c_34 | exact absurd z6 c_39 | exact absurd z7 c_44 | exact absurd c_56 (i32_le.mpr z6) | exact absurd c_63 (i32_le.mpr z7) | exact absurd c_67 (i32_le.mpr z8)), _, rfl, hth⟩)
    · refine lv_lload_n hx hb dX1_isBatch_13 rfl (lv_at hl 0 rfl) ?_
      refine lv_ldc2 hx hb hown (hts _ q145) dX1_isBatch_14 ?_
      refine W.lcmp hx hb dX1_isBatch_17 ?_
      refine lv_if_lt (tgt := 25) hx hb dX1_isBatch_18 (by decide) (fun c_18 => ?_) (fun c_18 => ?_)
      · rw [lg_cmp_lt] at c_18
        refine lv_iconst (v := 0) hx hb dX1_isBatch_25 (by decide) ?_
        refine xgo (xrunS (As := [.int 0]) (rest := []) ⟨hx, hb, hml, hown, hts⟩ (mX1_need0 l Y s.heap.size hfl) (va_cwS 1 hts (lw_S q146 q147 q11 q148) rfl rfl rfl (by decide +kernel) ⟨Nat.le_of_ble_eq_true rfl, Nat.le_of_ble_eq_true rfl⟩) ⟨sPreX_bl, fun U hU hW => ⟨rfl, by rw [hU], hYK.moved hW.alike, hex.moved hW (by rw [hU]; exact sA_kept hS)⟩⟩ rfl rfl hl.1 rfl (lv_room (Nat.le_of_ble_eq_true rfl)) dX1_isBatch_26 ⟨Nat.le_of_ble_eq_true rfl, Nat.le_of_ble_eq_true rfl⟩) hS (fun q _ h => Nat.le_trans hS.1 h) (fun q h => Nat.le_trans hS.1 h) (fun v H locs hv hz hk hS => ?_) (fun x H locs hv hz hk hS => ?_)
        · obtain ⟨a, ha, -⟩ := hv
          cases ha
        · obtain ⟨a, ha, hth⟩ := hv
          cases ha
          exact wt_out hno hlk hS (Or.inr ⟨fun z => by obtain ⟨⟨z1, z2, z3⟩, z4⟩ := z; first | exact absurd c_2 (i32_le.mpr z1) | exact absurd z2 (i32_le.mpr c_10) | exact absurd c_18 (i64_le.mpr z3) | (rcases z4 with ⟨z5, z6, z7⟩ | ⟨z5, z6, z7, z8⟩ <;> first | exact absurd c_34 z5 | exact absurd z5 c_34 | exact absurd z6 c_39 | exact absurd z7 c_44 | exact absurd c_56 (i32_le.mpr z6) | exact absurd c_63 (i32_le.mpr z7) | exact absurd c_67 (i32_le.mpr z8)), _, rfl, hth⟩)
      · rw [lg_cmp_lt] at c_18
        refine lv_iconst (v := 1) hx hb dX1_isBatch_21 (by decide) ?_
        refine lv_goto (tgt := 26) hx hb dX1_isBatch_22 (by decide) ?_
        refine xgoV (xrunS (As := [.int 1]) (rest := []) ⟨hx, hb, hml, hown, hts⟩ (mX1_need1 l s.heap.size) (va_cwS 1 hts (lw_S q146 q147 q11 q148) rfl rfl rfl (by decide +kernel) ⟨Nat.le_of_ble_eq_true rfl, Nat.le_of_ble_eq_true rfl⟩) ⟨sPre_bl, fun U hU hW => ⟨rfl, congrArg Array.size hU⟩⟩ rfl rfl hl.1 rfl (lv_room (Nat.le_of_ble_eq_true rfl)) dX1_isBatch_26 ⟨Nat.le_of_ble_eq_true rfl, Nat.le_of_ble_eq_true rfl⟩) hS (fun q _ h => Nat.le_trans hS.1 h) (fun q h => Nat.le_trans hS.1 h) (fun H locs _ hz hk hS => ?_)
        refine lv_lload_n hx hb dX1_isBatch_29 rfl (lv_at hl 0 rfl) ?_
        refine lv_ldc2 hx hb hown (hts _ q145) dX1_isBatch_30 ?_
        refine W.lcmp hx hb dX1_isBatch_33 ?_
        refine lv_if_ne (tgt := 55) hx hb dX1_isBatch_34 (by decide) (fun c_34 => ?_) (fun c_34 => ?_)
        · rw [lg_cmp_eq] at c_34
          refine lv_iload_n hx hb dX1_isBatch_55 rfl (lv_at hl 1 rfl) ?_
          refine lv_if_lt (tgt := 74) hx hb dX1_isBatch_56 (by decide) (fun c_56 => ?_) (fun c_56 => ?_)
          · refine lv_iconst (v := 0) hx hb dX1_isBatch_74 (by decide) ?_
            refine xgo (xrunS (As := [.int 0]) (rest := []) ⟨hx, hb, hml, hown, hts⟩ (mX1_need0 l Y H.size hfl) (va_cwS 1 hts (lw_S q146 q147 q11 q148) rfl rfl rfl (by decide +kernel) ⟨Nat.le_of_ble_eq_true rfl, Nat.le_of_ble_eq_true rfl⟩) ⟨sPreX_bl, fun U hU hW => ⟨rfl, by rw [hU], hYK.moved hW.alike, hex.moved hW (by rw [hU]; exact sA_kept hS)⟩⟩ rfl rfl hl.1 rfl (lv_room (Nat.le_of_ble_eq_true rfl)) dX1_isBatch_75 ⟨Nat.le_of_ble_eq_true rfl, Nat.le_of_ble_eq_true rfl⟩) hS (fun q _ h => Nat.le_trans hS.1 h) (fun q h => Nat.le_trans hS.1 h) (fun v H locs hv hz hk hS => ?_) (fun x H locs hv hz hk hS => ?_)
            · obtain ⟨a, ha, -⟩ := hv
              cases ha
            · obtain ⟨a, ha, hth⟩ := hv
              cases ha
              exact wt_out hno hlk hS (Or.inr ⟨fun z => by obtain ⟨⟨z1, z2, z3⟩, z4⟩ := z; first | exact absurd c_2 (i32_le.mpr z1) | exact absurd z2 (i32_le.mpr c_10) | exact absurd c_18 (i64_le.mpr z3) | (rcases z4 with ⟨z5, z6, z7⟩ | ⟨z5, z6, z7, z8⟩ <;> first | exact absurd c_34 z5 | exact absurd z5 c_34 | exact absurd z6 c_39 | exact absurd z7 c_44 | exact absurd c_56 (i32_le.mpr z6) | exact absurd c_63 (i32_le.mpr z7) | exact absurd c_67 (i32_le.mpr z8)), _, rfl, hth⟩)
          · refine lv_iload_n hx hb dX1_isBatch_59 rfl (lv_at hl 1 rfl) ?_
            refine lv_sipush (v := 32767) hx hb dX1_isBatch_60 (by decide) ?_
            refine lv_icmp_gt (tgt := 74) hx hb dX1_isBatch_63 (by decide) (fun c_63 => ?_) (fun c_63 => ?_)
            · refine lv_iconst (v := 0) hx hb dX1_isBatch_74 (by decide) ?_
              refine xgo (xrunS (As := [.int 0]) (rest := []) ⟨hx, hb, hml, hown, hts⟩ (mX1_need0 l Y H.size hfl) (va_cwS 1 hts (lw_S q146 q147 q11 q148) rfl rfl rfl (by decide +kernel) ⟨Nat.le_of_ble_eq_true rfl, Nat.le_of_ble_eq_true rfl⟩) ⟨sPreX_bl, fun U hU hW => ⟨rfl, by rw [hU], hYK.moved hW.alike, hex.moved hW (by rw [hU]; exact sA_kept hS)⟩⟩ rfl rfl hl.1 rfl (lv_room (Nat.le_of_ble_eq_true rfl)) dX1_isBatch_75 ⟨Nat.le_of_ble_eq_true rfl, Nat.le_of_ble_eq_true rfl⟩) hS (fun q _ h => Nat.le_trans hS.1 h) (fun q h => Nat.le_trans hS.1 h) (fun v H locs hv hz hk hS => ?_) (fun x H locs hv hz hk hS => ?_)
              · obtain ⟨a, ha, -⟩ := hv
                cases ha
              · obtain ⟨a, ha, hth⟩ := hv
                cases ha
                exact wt_out hno hlk hS (Or.inr ⟨fun z => by obtain ⟨⟨z1, z2, z3⟩, z4⟩ := z; first | exact absurd c_2 (i32_le.mpr z1) | exact absurd z2 (i32_le.mpr c_10) | exact absurd c_18 (i64_le.mpr z3) | (rcases z4 with ⟨z5, z6, z7⟩ | ⟨z5, z6, z7, z8⟩ <;> first | exact absurd c_34 z5 | exact absurd z5 c_34 | exact absurd z6 c_39 | exact absurd z7 c_44 | exact absurd c_56 (i32_le.mpr z6) | exact absurd c_63 (i32_le.mpr z7) | exact absurd c_67 (i32_le.mpr z8)), _, rfl, hth⟩)
            · refine lv_iload_n hx hb dX1_isBatch_66 rfl (lv_at hl 2 rfl) ?_
              refine lv_if_lt (tgt := 74) hx hb dX1_isBatch_67 (by decide) (fun c_67 => ?_) (fun c_67 => ?_)
              · refine lv_iconst (v := 0) hx hb dX1_isBatch_74 (by decide) ?_
                refine xgo (xrunS (As := [.int 0]) (rest := []) ⟨hx, hb, hml, hown, hts⟩ (mX1_need0 l Y H.size hfl) (va_cwS 1 hts (lw_S q146 q147 q11 q148) rfl rfl rfl (by decide +kernel) ⟨Nat.le_of_ble_eq_true rfl, Nat.le_of_ble_eq_true rfl⟩) ⟨sPreX_bl, fun U hU hW => ⟨rfl, by rw [hU], hYK.moved hW.alike, hex.moved hW (by rw [hU]; exact sA_kept hS)⟩⟩ rfl rfl hl.1 rfl (lv_room (Nat.le_of_ble_eq_true rfl)) dX1_isBatch_75 ⟨Nat.le_of_ble_eq_true rfl, Nat.le_of_ble_eq_true rfl⟩) hS (fun q _ h => Nat.le_trans hS.1 h) (fun q h => Nat.le_trans hS.1 h) (fun v H locs hv hz hk hS => ?_) (fun x H locs hv hz hk hS => ?_)
                · obtain ⟨a, ha, -⟩ := hv
                  cases ha
                · obtain ⟨a, ha, hth⟩ := hv
                  cases ha
                  exact wt_out hno hlk hS (Or.inr ⟨fun z => by obtain ⟨⟨z1, z2, z3⟩, z4⟩ := z; first | exact absurd c_2 (i32_le.mpr z1) | exact absurd z2 (i32_le.mpr c_10) | exact absurd c_18 (i64_le.mpr z3) | (rcases z4 with ⟨z5, z6, z7⟩ | ⟨z5, z6, z7, z8⟩ <;> first | exact absurd c_34 z5 | exact absurd z5 c_34 | exact absurd z6 c_39 | exact absurd z7 c_44 | exact absurd c_56 (i32_le.mpr z6) | exact absurd c_63 (i32_le.mpr z7) | exact absurd c_67 (i32_le.mpr z8)), _, rfl, hth⟩)
              · refine lv_iconst (v := 1) hx hb dX1_isBatch_70 (by decide) ?_
                refine lv_goto (tgt := 75) hx hb dX1_isBatch_71 (by decide) ?_
                refine xgoV (xrunS (As := [.int 1]) (rest := []) ⟨hx, hb, hml, hown, hts⟩ (mX1_need1 l H.size) (va_cwS 1 hts (lw_S q146 q147 q11 q148) rfl rfl rfl (by decide +kernel) ⟨Nat.le_of_ble_eq_true rfl, Nat.le_of_ble_eq_true rfl⟩) ⟨sPre_bl, fun U hU hW => ⟨rfl, congrArg Array.size hU⟩⟩ rfl rfl hl.1 rfl (lv_room (Nat.le_of_ble_eq_true rfl)) dX1_isBatch_75 ⟨Nat.le_of_ble_eq_true rfl, Nat.le_of_ble_eq_true rfl⟩) hS (fun q _ h => Nat.le_trans hS.1 h) (fun q h => Nat.le_trans hS.1 h) (fun H locs _ hz hk hS => ?_)
                refine W.widen (k := 1) (n := 6) (by decide) (by decide) ?_
                exact xvret hx hb hr hlk hS dX1_isBatch_78 (Or.inl ⟨⟨⟨i32_le.mp c_2, i32_lt.mp c_10, i64_le.mp c_18⟩, by first | exact Or.inl ⟨c_34, c_39, c_44⟩ | exact Or.inr ⟨c_34, i32_le.mp c_56, i32_le.mp c_63, i32_le.mp c_67⟩⟩, rfl⟩)
        · rw [lg_cmp_eq] at c_34
          refine lv_iload_n hx hb dX1_isBatch_37 rfl (lv_at hl 1 rfl) ?_
          refine lv_iconst (v := (-1)) hx hb dX1_isBatch_38 (by decide) ?_
          refine lv_icmp_ne (tgt := 51) hx hb dX1_isBatch_39 (by decide) (fun c_39 => ?_) (fun c_39 => ?_)
          · refine lv_iconst (v := 0) hx hb dX1_isBatch_51 (by decide) ?_
            refine lv_goto (tgt := 75) hx hb dX1_isBatch_52 (by decide) ?_
            refine xgo (xrunS (As := [.int 0]) (rest := []) ⟨hx, hb, hml, hown, hts⟩ (mX1_need0 l Y H.size hfl) (va_cwS 1 hts (lw_S q146 q147 q11 q148) rfl rfl rfl (by decide +kernel) ⟨Nat.le_of_ble_eq_true rfl, Nat.le_of_ble_eq_true rfl⟩) ⟨sPreX_bl, fun U hU hW => ⟨rfl, by rw [hU], hYK.moved hW.alike, hex.moved hW (by rw [hU]; exact sA_kept hS)⟩⟩ rfl rfl hl.1 rfl (lv_room (Nat.le_of_ble_eq_true rfl)) dX1_isBatch_75 ⟨Nat.le_of_ble_eq_true rfl, Nat.le_of_ble_eq_true rfl⟩) hS (fun q _ h => Nat.le_trans hS.1 h) (fun q h => Nat.le_trans hS.1 h) (fun v H locs hv hz hk hS => ?_) (fun x H locs hv hz hk hS => ?_)
            · obtain ⟨a, ha, -⟩ := hv
              cases ha
            · obtain ⟨a, ha, hth⟩ := hv
              cases ha
              exact wt_out hno hlk hS (Or.inr ⟨fun z => by obtain ⟨⟨z1, z2, z3⟩, z4⟩ := z; first | exact absurd c_2 (i32_le.mpr z1) | exact absurd z2 (i32_le.mpr c_10) | exact absurd c_18 (i64_le.mpr z3) | (rcases z4 with ⟨z5, z6, z7⟩ | ⟨z5, z6, z7, z8⟩ <;> first | exact absurd c_34 z5 | exact absurd z5 c_34 | exact absurd z6 c_39 | exact absurd z7 c_44 | exact absurd c_56 (i32_le.mpr z6) | exact absurd c_63 (i32_le.mpr z7) | exact absurd c_67 (i32_le.mpr z8)), _, rfl, hth⟩)
          · refine lv_iload_n hx hb dX1_isBatch_42 rfl (lv_at hl 2 rfl) ?_
            refine lv_iconst (v := (-1)) hx hb dX1_isBatch_43 (by decide) ?_
            refine lv_icmp_ne (tgt := 51) hx hb dX1_isBatch_44 (by decide) (fun c_44 => ?_) (fun c_44 => ?_)
            · refine lv_iconst (v := 0) hx hb dX1_isBatch_51 (by decide) ?_
              refine lv_goto (tgt := 75) hx hb dX1_isBatch_52 (by decide) ?_
              refine xgo (xrunS (As := [.int 0]) (rest := []) ⟨hx, hb, hml, hown, hts⟩ (mX1_need0 l Y H.size hfl) (va_cwS 1 hts (lw_S q146 q147 q11 q148) rfl rfl rfl (by decide +kernel) ⟨Nat.le_of_ble_eq_true rfl, Nat.le_of_ble_eq_true rfl⟩) ⟨sPreX_bl, fun U hU hW => ⟨rfl, by rw [hU], hYK.moved hW.alike, hex.moved hW (by rw [hU]; exact sA_kept hS)⟩⟩ rfl rfl hl.1 rfl (lv_room (Nat.le_of_ble_eq_true rfl)) dX1_isBatch_75 ⟨Nat.le_of_ble_eq_true rfl, Nat.le_of_ble_eq_true rfl⟩) hS (fun q _ h => Nat.le_trans hS.1 h) (fun q h => Nat.le_trans hS.1 h) (fun v H locs hv hz hk hS => ?_) (fun x H locs hv hz hk hS => ?_)
              · obtain ⟨a, ha, -⟩ := hv
                cases ha
              · obtain ⟨a, ha, hth⟩ := hv
                cases ha
                exact wt_out hno hlk hS (Or.inr ⟨fun z => by obtain ⟨⟨z1, z2, z3⟩, z4⟩ := z; first | exact absurd c_2 (i32_le.mpr z1) | exact absurd z2 (i32_le.mpr c_10) | exact absurd c_18 (i64_le.mpr z3) | (rcases z4 with ⟨z5, z6, z7⟩ | ⟨z5, z6, z7, z8⟩ <;> first | exact absurd c_34 z5 | exact absurd z5 c_34 | exact absurd z6 c_39 | exact absurd z7 c_44 | exact absurd c_56 (i32_le.mpr z6) | exact absurd c_63 (i32_le.mpr z7) | exact absurd c_67 (i32_le.mpr z8)), _, rfl, hth⟩)
            · refine lv_iconst (v := 1) hx hb dX1_isBatch_47 (by decide) ?_
              refine lv_goto (tgt := 75) hx hb dX1_isBatch_48 (by decide) ?_
              refine xgoV (xrunS (As := [.int 1]) (rest := []) ⟨hx, hb, hml, hown, hts⟩ (mX1_need1 l H.size) (va_cwS 1 hts (lw_S q146 q147 q11 q148) rfl rfl rfl (by decide +kernel) ⟨Nat.le_of_ble_eq_true rfl, Nat.le_of_ble_eq_true rfl⟩) ⟨sPre_bl, fun U hU hW => ⟨rfl, congrArg Array.size hU⟩⟩ rfl rfl hl.1 rfl (lv_room (Nat.le_of_ble_eq_true rfl)) dX1_isBatch_75 ⟨Nat.le_of_ble_eq_true rfl, Nat.le_of_ble_eq_true rfl⟩) hS (fun q _ h => Nat.le_trans hS.1 h) (fun q h => Nat.le_trans hS.1 h) (fun H locs _ hz hk hS => ?_)
              refine W.widen (k := 1) (n := 6) (by decide) (by decide) ?_
              exact xvret hx hb hr hlk hS dX1_isBatch_78 (Or.inl ⟨⟨⟨i32_le.mp c_2, i32_lt.mp c_10, i64_le.mp c_18⟩, by first | exact Or.inl ⟨c_34, c_39, c_44⟩ | exact Or.inr ⟨c_34, i32_le.mp c_56, i32_le.mp c_63, i32_le.mp c_67⟩⟩, rfl⟩)
end
section
/-! ProducerBook: answer (written by prog/book1.py) -/
set_option maxRecDepth 100000
set_option maxHeartbeats 4000000 in
theorem mX1_answer (l : Launch) (Y : YT) (h : Nat → Nat) (hh : aD 13 h) (sz : Nat) (L : Lg) (P : Pg) (p1 : Int64) (e1 s1 l1 : Int32) (hpm : -1 ≤ p1) (hlg : LogOK L) (hok : PgOK (gP L) (gN L) P) : XMet l yX1_answer (ws_ yX1_answer cX1_answer 10 (some .int)) ({ frames := 3, cells := 0, slots := 0, locals := 68 }) (bPre Y h L P sz [.ref (h 0), .long p1, .int e1, .int s1, .int l1]) (xQ (pI (judge L p1 e1 s1 l1) (bH Y h L P)) (aA 13 h sz)) 0 0 (aA 13 h sz) := by
  refine XMet.ofW (cc := cX1_answer) (maxL := 10) (ret := (some .int)) (by decide) rfl ?_
  intro p e s m args below meth c s₁ B hml hno hv
  obtain ⟨rfl, hsz, hP, hYK⟩ := hv
  obtain ⟨⟨n, e0⟩, fB, fP, fX, fS, fL⟩ := L
  obtain ⟨pn, fK, fT, fO, fA, fW⟩ := P
  have hx := B.exec
  have hb := B.bytes
  have hr := B.returns
  have hlk := B.notSynchronized
  have hts := atoms_spec (ws := ws_ yX1_answer cX1_answer 10 (some .int)) B.pre
  have hts : ∀ w ∈ lw_all, w.before _ s = true := fun w h => hts w (List.mem_cons_of_mem _ h)
  have hown : s.vm.findClass RX1 = some m.cls := findClass_of_methodNamed B.named
  subst hsz
  have hK := hYK.1
  have hP0 := hP
  have hS : va_S (aA 13 h s.heap.size) s.heap s.heap [] := va_S.rf
  have hl := lv_entry [.ref (h 0), .long p1, .int e1, .int s1, .int l1] (n := 10) (Nat.le_of_ble_eq_true rfl)
  rw [lg_entry_eq]
  generalize (lg_sl [.ref (h 0), .long p1, .int e1, .int s1, .int l1] ++ List.replicate (10 - (lg_sl [.ref (h 0), .long p1, .int e1, .int s1, .int l1]).length) Slot.unset).toArray = ls at hl ⊢
  have hl : lv_has ls 10 [(0, .ref (h 0)), (1, .long p1), (3, .int e1), (4, .int s1), (5, .int l1)] := hl
  refine lv_lload_n hx hb dX1_answer_0 rfl (lv_at hl 1 rfl) ?_
  refine lv_ldc2 hx hb hown (hts _ q145) dX1_answer_1 ?_
  refine W.lcmp hx hb dX1_answer_4 ?_
  refine lv_if_ne (tgt := 12) hx hb dX1_answer_5 (by decide) (fun c_5 => ?_) (fun c_5 => ?_)
  · rw [lg_cmp_eq] at c_5
    have hp0 : ¬ p1 < 0 := fun z => c_5 ((lt_m1 hpm).mp z)
    refine lv_aload_n hx hb dX1_answer_12 rfl (lv_at hl 0 rfl) ?_
    refine va_get (D := Y.1) (ci := 0) (v := .ref (h 2)) (C := RX1) (T := TX1) (N := 2) hx hb hts in_X1 hown hK hP 0 rfl rfl 1 (by decide) (hts _ q102) (fun _ h9 => h9) rfl dX1_answer_13 ?_
    refine lv_lload_n hx hb dX1_answer_16 rfl (lv_at hl 1 rfl) ?_
    refine xgoE (xrunV (As := [.long p1]) (rest := []) ⟨hx, hb, hml, hown, hts⟩ (mX3_find l Y h hh s.heap.size _ _ p1 hok.2.2.2.2.2.2.2 (Nat.le_trans hok.le hlg.1)) (cwV 1 hts (lw_V q215 q216 q217 q13 q218) rfl rfl rfl (by decide +kernel) ⟨Nat.le_of_ble_eq_true rfl, Nat.le_of_ble_eq_true rfl⟩) ⟨bPre_bl, va_recv hK hP (ci := 2) (q0 := 2) rfl rfl, fun U hU hW => ⟨rfl, by rw [hU], by rw [hU]; exact hP, hYK.moved hW.alike⟩⟩ rfl rfl hl.1 rfl (lv_room (Nat.le_of_ble_eq_true rfl)) dX1_answer_17 ⟨Nat.le_of_ble_eq_true rfl, Nat.le_of_ble_eq_true rfl⟩) hS (fun q _ h => aA.le hS.1 h) (fun q h => aA.le hS.1 h) (fun r17 H locs hP hz hk hS => ?_)
    obtain ⟨hr17, hP⟩ := hP
    rcases hr17 with ⟨rfl, hnp⟩ | ⟨g, hg, rfl, hgo⟩
    · have hnone : occ (gP ((n, e0), fB, fP, fX, fS, fL)) p1 (gN ((n, e0), fB, fP, fX, fS, fL)) 0 = none := occ_none (by
        rcases Nat.eq_zero_or_pos (cnt fP p1 n) with z | z
        · exact Nat.le_of_eq z
        · obtain ⟨k, hk⟩ := occ_some z
          obtain ⟨a1, a2, -⟩ := occ_spec hk
          obtain ⟨g, hg, ho⟩ := hok.2.1 k a1 (fun e => c_5 (a2.symm.trans e))
          exact absurd (ho.trans a2) (hnp g hg))
      refine lv_istore (lv' := [(6, .int (-1)), (0, .ref (h 0)), (1, .long p1), (3, .int e1), (4, .int s1), (5, .int l1)]) hx hb dX1_answer_20 hl (by decide) rfl (fun ls hl => ?_)
      refine lv_iload hx hb dX1_answer_22 (lv_at hl 0 rfl) ?_
      refine lv_iconst (v := (-1)) hx hb dX1_answer_24 (by decide) ?_
      refine lv_icmp_ne (tgt := 30) hx hb dX1_answer_25 (by decide) (fun c_25 => ?_) (fun c_25 => ?_)
      · exact absurd (rfl) c_25
      · refine lv_iconst (v := (-1)) hx hb dX1_answer_28 (by decide) ?_
        exact xiret hx hb hr hlk hS dX1_answer_29 (⟨ri (judge_none hnone).symm, hP⟩)
    · have hn : n ≤ 2000 := hlg.1
      have hpn : pn ≤ n := hok.le
      have hg : g < pn := hg
      have hwv : fW g = nI (cnt fP p1 n) := by have := hok.2.2.2.2.1 g hg; rw [hgo] at this; exact this
      have hw0 : 0 < cnt fP p1 n := by have := (hok.2.2.1 g hg).2; rw [hgo] at this; exact this
      have hA : ∀ i k, i < 5 → occ fP p1 n i = some k → fA (5 * g + (cnt fP p1 n - 1 - i) % 5) = nI k := fun i k hi hk => by have := hok.2.2.2.2.2.1 g i k hg hi (by rw [hgo]; exact hk); rw [hgo] at this; exact this
      have hcl := cnt_le fP p1 n
      obtain ⟨k0, hk0⟩ := occ_some hw0
      have hk0n : k0 < n := (occ_spec hk0).1
      generalize hwe : cnt fP p1 n = w at hwv hw0 hA hcl
      refine lv_istore (lv' := [(6, .int (nI g)), (0, .ref (h 0)), (1, .long p1), (3, .int e1), (4, .int s1), (5, .int l1)]) hx hb dX1_answer_20 hl (by decide) rfl (fun ls hl => ?_)
      refine lv_iload hx hb dX1_answer_22 (lv_at hl 0 rfl) ?_
      refine lv_iconst (v := (-1)) hx hb dX1_answer_24 (by decide) ?_
      refine lv_icmp_ne (tgt := 30) hx hb dX1_answer_25 (by decide) (fun c_25 => ?_) (fun c_25 => ?_)
      · refine lv_aload_n hx hb dX1_answer_30 rfl (lv_at hl 1 rfl) ?_
        refine va_get (D := Y.1) (ci := 0) (v := .ref (h 2)) (C := RX1) (T := TX1) (N := 2) hx hb hts in_X1 hown hK hP 0 rfl rfl 1 (by decide) (hts _ q102) (fun _ h9 => h9) rfl dX1_answer_31 ?_
        refine lv_iload hx hb dX1_answer_34 (lv_at hl 0 rfl) ?_
        refine lv_iconst (v := 0) hx hb dX1_answer_36 (by decide) ?_
        refine xi_eq (nI 0) (nI_0.symm) ?_
        refine xgoI (xrunV (As := [.int (nI g), .int (nI 0)]) (rest := []) ⟨hx, hb, hml, hown, hts⟩ (mX3_batch l Y h hh H.size _ _ g 0 w (by omega) hwv hw0 (by omega)) (cwV 2 hts (lw_V q219 q220 q221 q13 q222) rfl rfl rfl (by decide +kernel) ⟨Nat.le_of_ble_eq_true rfl, Nat.le_of_ble_eq_true rfl⟩) ⟨bPre_bl, va_recv hK hP (ci := 2) (q0 := 2) rfl rfl, fun U hU hW => ⟨rfl, by rw [hU], by rw [hU]; exact hP, hYK.moved hW.alike⟩⟩ rfl rfl hl.1 rfl (lv_room (Nat.le_of_ble_eq_true rfl)) dX1_answer_37 ⟨Nat.le_of_ble_eq_true rfl, Nat.le_of_ble_eq_true rfl⟩) hS (fun q _ h => aA.le hS.1 h) (fun q h => aA.le hS.1 h) (fun H locs hP hz hk hS => ?_)
        refine xi_eq (nI k0) (hA 0 k0 (by decide) hk0) ?_
        refine lv_istore (lv' := [(7, .int (nI k0)), (6, .int (nI g)), (0, .ref (h 0)), (1, .long p1), (3, .int e1), (4, .int s1), (5, .int l1)]) hx hb dX1_answer_40 hl (by decide) rfl (fun ls hl => ?_)
        refine lv_iload_n hx hb dX1_answer_42 rfl (lv_at hl 4 rfl) ?_
        refine lv_aload_n hx hb dX1_answer_43 rfl (lv_at hl 2 rfl) ?_
        refine va_get (D := Y.1) (ci := 0) (v := .ref (h 1)) (C := RX1) (T := TX1) (N := 2) hx hb hts in_X1 hown hK hP 0 rfl rfl 0 (by decide) (hts _ q101) (fun _ h9 => h9) rfl dX1_answer_44 ?_
        refine va_get (D := Y.1) (ci := 1) (v := .ref (h 5)) (C := RX2) (T := TX2) (N := 8) hx hb hts in_X2 hown hK hP 1 rfl rfl 2 (by decide) (hts _ q41) (fun _ h9 => h9) rfl dX1_answer_47 ?_
        refine lv_iload hx hb dX1_answer_50 (lv_at hl 0 rfl) ?_
        refine y_sald hx hb hK hP 5 2 fX rfl rfl k0 (by omega) (by decide) dX1_answer_52 ?_
        refine lv_icmp_ge (tgt := 59) hx hb dX1_answer_53 (by decide) (fun c_53 => ?_) (fun c_53 => ?_)
        · refine lv_iconst (v := 0) hx hb dX1_answer_59 (by decide) ?_
          refine xi_eq (nI 0) (nI_0.symm) ?_
          refine lv_istore (lv' := [(8, .int (nI 0)), (7, .int (nI k0)), (6, .int (nI g)), (0, .ref (h 0)), (1, .long p1), (3, .int e1), (4, .int s1), (5, .int l1)]) hx hb dX1_answer_60 hl (by decide) rfl (fun ls hl => ?_)
          have loop : ∀ (k i : Nat), i + k = min 5 w → dup ((n, e0), fB, fP, fX, fS, fL) p1 e1 s1 l1 5 = dup ((n, e0), fB, fP, fX, fS, fL) p1 e1 s1 l1 (5 - i) → ∀ (H : Heap) (locs : List Loc), bH Y h ((n, e0), fB, fP, fX, fS, fL) (pn, fK, fT, fO, fA, fW) H → va_S (aA 13 h s.heap.size) s.heap H locs → ∀ (ls : Array Slot), lv_has ls 10 [(8, .int (nI i)), (7, .int (nI k0)), (6, .int (nI g)), (0, .ref (h 0)), (1, .long p1), (3, .int e1), (4, .int s1), (5, .int l1)] → W p l e (headSpec (ws_ yX1_answer cX1_answer 10 (some .int)) ({ frames := 3, cells := 0, slots := 0, locals := 68 })).room s m ([.ref (h 0), .long p1, .int e1, .int s1, .int l1] : List Value).toArray below meth c H locs 0 0 (XMQ below (xQ (pI (judge ((n, e0), fB, fP, fX, fS, fL) p1 e1 s1 l1) (bH Y h ((n, e0), fB, fP, fX, fS, fL) (pn, fK, fT, fO, fA, fW))) (aA 13 h s.heap.size)) ([.ref (h 0), .long p1, .int e1, .int s1, .int l1] : List Value).toArray s 0 0 (aA 13 h s.heap.size)) (F0 m 62 ls []) := by
            intro k
            induction k with
            | zero =>
              intro i hi hd H locs hP hS ls hl
              refine lv_iload hx hb dX1_answer_62 (lv_at hl 0 rfl) ?_
              refine lv_aload_n hx hb dX1_answer_64 rfl (lv_at hl 3 rfl) ?_
              refine va_get (D := Y.1) (ci := 0) (v := .ref (h 2)) (C := RX1) (T := TX1) (N := 2) hx hb hts in_X1 hown hK hP 0 rfl rfl 1 (by decide) (hts _ q102) (fun _ h9 => h9) rfl dX1_answer_65 ?_
              refine lv_iload hx hb dX1_answer_68 (lv_at hl 2 rfl) ?_
              refine xgoI (xrunV (As := [.int (nI g)]) (rest := [.int (nI i)]) ⟨hx, hb, hml, hown, hts⟩ (mX3_known l Y h hh H.size _ _ g w (by omega) hwv (by omega)) (cwV 1 hts (lw_V q223 q224 q225 q13 q226) rfl rfl rfl (by decide +kernel) ⟨Nat.le_of_ble_eq_true rfl, Nat.le_of_ble_eq_true rfl⟩) ⟨bPre_bl, va_recv hK hP (ci := 2) (q0 := 2) rfl rfl, fun U hU hW => ⟨rfl, by rw [hU], by rw [hU]; exact hP, hYK.moved hW.alike⟩⟩ rfl rfl hl.1 rfl (lv_room (Nat.le_of_ble_eq_true rfl)) dX1_answer_70 ⟨Nat.le_of_ble_eq_true rfl, Nat.le_of_ble_eq_true rfl⟩) hS (fun q _ h => aA.le hS.1 h) (fun q h => aA.le hS.1 h) (fun H locs hP hz hk hS => ?_)
              refine lv_icmp_ge (tgt := 150) hx hb dX1_answer_73 (by decide) (fun c_73 => ?_) (fun c_73 => ?_)
              · have hdn : dup ((n, e0), fB, fP, fX, fS, fL) p1 e1 s1 l1 5 = none := by rw [hd]; exact dup_fin (by show min 5 (cnt fP p1 n) ≤ _; omega)
                refine lv_iload hx hb dX1_answer_150 (lv_at hl 6 rfl) ?_
                refine lv_iload_n hx hb dX1_answer_152 rfl (lv_at hl 5 rfl) ?_
                refine lv_aload_n hx hb dX1_answer_153 rfl (lv_at hl 3 rfl) ?_
                refine va_get (D := Y.1) (ci := 0) (v := .ref (h 1)) (C := RX1) (T := TX1) (N := 2) hx hb hts in_X1 hown hK hP 0 rfl rfl 0 (by decide) (hts _ q101) (fun _ h9 => h9) rfl dX1_answer_154 ?_
                refine va_get (D := Y.1) (ci := 1) (v := .ref (h 5)) (C := RX2) (T := TX2) (N := 8) hx hb hts in_X2 hown hK hP 1 rfl rfl 2 (by decide) (hts _ q41) (fun _ h9 => h9) rfl dX1_answer_157 ?_
                refine lv_iload hx hb dX1_answer_160 (lv_at hl 1 rfl) ?_
                refine y_sald hx hb hK hP 5 2 fX rfl rfl k0 (by omega) (by decide) dX1_answer_162 ?_
                refine lv_icmp_ne (tgt := 178) hx hb dX1_answer_163 (by decide) (fun c_163 => ?_) (fun c_163 => ?_)
                · refine lv_iconst (v := 0) hx hb dX1_answer_178 (by decide) ?_
                  refine lv_icmp_ne (tgt := 186) hx hb dX1_answer_179 (by decide) (fun c_179 => ?_) (fun c_179 => ?_)
                  · refine lv_bipush (v := (-7)) hx hb dX1_answer_186 (by decide) ?_
                    exact xiret hx hb hr hlk hS dX1_answer_188 (⟨ri (by rw [judge_due (L := ((n, e0), fB, fP, fX, fS, fL)) hp0 hk0 (i32_le.mpr c_53) hdn, if_pos (i32_lt_of (i32_le.mpr c_53) c_163), if_neg c_179]), hP⟩)
                  · refine lv_iconst (v := (-1)) hx hb dX1_answer_182 (by decide) ?_
                    refine lv_goto (tgt := 188) hx hb dX1_answer_183 (by decide) ?_
                    exact xiret hx hb hr hlk hS dX1_answer_188 (⟨ri (by rw [judge_due (L := ((n, e0), fB, fP, fX, fS, fL)) hp0 hk0 (i32_le.mpr c_53) hdn, if_pos (i32_lt_of (i32_le.mpr c_53) c_163), if_pos c_179]), hP⟩)
                · refine lv_aload_n hx hb dX1_answer_166 rfl (lv_at hl 3 rfl) ?_
                  refine va_get (D := Y.1) (ci := 0) (v := .ref (h 1)) (C := RX1) (T := TX1) (N := 2) hx hb hts in_X1 hown hK hP 0 rfl rfl 0 (by decide) (hts _ q101) (fun _ h9 => h9) rfl dX1_answer_167 ?_
                  refine lv_iload hx hb dX1_answer_170 (lv_at hl 1 rfl) ?_
                  refine xgoI (xrunV (As := [.int (nI k0)]) (rest := [.int s1]) ⟨hx, hb, hml, hown, hts⟩ (mX2_next l Y h hh H.size _ _ k0 (by omega)) (cwV 1 hts (lw_V q230 q231 q232 q12 q233) rfl rfl rfl (by decide +kernel) ⟨Nat.le_of_ble_eq_true rfl, Nat.le_of_ble_eq_true rfl⟩) ⟨bPre_bl, va_recv hK hP (ci := 1) (q0 := 1) rfl rfl, fun U hU hW => ⟨rfl, by rw [hU], by rw [hU]; exact hP, hYK.moved hW.alike⟩⟩ rfl rfl hl.1 rfl (lv_room (Nat.le_of_ble_eq_true rfl)) dX1_answer_172 ⟨Nat.le_of_ble_eq_true rfl, Nat.le_of_ble_eq_true rfl⟩) hS (fun q _ h => aA.le hS.1 h) (fun q h => aA.le hS.1 h) (fun H locs hP hz hk hS => ?_)
                  refine lv_goto (tgt := 179) hx hb dX1_answer_175 (by decide) ?_
                  refine lv_icmp_ne (tgt := 186) hx hb dX1_answer_179 (by decide) (fun c_179 => ?_) (fun c_179 => ?_)
                  · refine lv_bipush (v := (-7)) hx hb dX1_answer_186 (by decide) ?_
                    exact xiret hx hb hr hlk hS dX1_answer_188 (⟨ri (by rw [judge_due (L := ((n, e0), fB, fP, fX, fS, fL)) hp0 hk0 (i32_le.mpr c_53) hdn, if_neg (show ¬ fX k0 < e1 by rw [c_163, Int32.lt_iff_toInt_lt]; omega), if_neg c_179]), hP⟩)
                  · refine lv_iconst (v := (-1)) hx hb dX1_answer_182 (by decide) ?_
                    refine lv_goto (tgt := 188) hx hb dX1_answer_183 (by decide) ?_
                    exact xiret hx hb hr hlk hS dX1_answer_188 (⟨ri (by rw [judge_due (L := ((n, e0), fB, fP, fX, fS, fL)) hp0 hk0 (i32_le.mpr c_53) hdn, if_neg (show ¬ fX k0 < e1 by rw [c_163, Int32.lt_iff_toInt_lt]; omega), if_pos c_179]), hP⟩)
              · exact absurd ((nI_le (by omega) (by omega) : nI (min 5 w) ≤ nI i)) c_73
            | succ k ih =>
              intro i hi hd H locs hP hS ls hl
              obtain ⟨k1, hk1⟩ := occ_some (f := fP) (p := p1) (n := n) (i := i) (by omega)
              have hk1n : k1 < n := (occ_spec hk1).1
              refine lv_iload hx hb dX1_answer_62 (lv_at hl 0 rfl) ?_
              refine lv_aload_n hx hb dX1_answer_64 rfl (lv_at hl 3 rfl) ?_
              refine va_get (D := Y.1) (ci := 0) (v := .ref (h 2)) (C := RX1) (T := TX1) (N := 2) hx hb hts in_X1 hown hK hP 0 rfl rfl 1 (by decide) (hts _ q102) (fun _ h9 => h9) rfl dX1_answer_65 ?_
              refine lv_iload hx hb dX1_answer_68 (lv_at hl 2 rfl) ?_
              refine xgoI (xrunV (As := [.int (nI g)]) (rest := [.int (nI i)]) ⟨hx, hb, hml, hown, hts⟩ (mX3_known l Y h hh H.size _ _ g w (by omega) hwv (by omega)) (cwV 1 hts (lw_V q223 q224 q225 q13 q226) rfl rfl rfl (by decide +kernel) ⟨Nat.le_of_ble_eq_true rfl, Nat.le_of_ble_eq_true rfl⟩) ⟨bPre_bl, va_recv hK hP (ci := 2) (q0 := 2) rfl rfl, fun U hU hW => ⟨rfl, by rw [hU], by rw [hU]; exact hP, hYK.moved hW.alike⟩⟩ rfl rfl hl.1 rfl (lv_room (Nat.le_of_ble_eq_true rfl)) dX1_answer_70 ⟨Nat.le_of_ble_eq_true rfl, Nat.le_of_ble_eq_true rfl⟩) hS (fun q _ h => aA.le hS.1 h) (fun q h => aA.le hS.1 h) (fun H locs hP hz hk hS => ?_)
              refine lv_icmp_ge (tgt := 150) hx hb dX1_answer_73 (by decide) (fun c_73 => ?_) (fun c_73 => ?_)
              · exact absurd c_73 ((fun z => absurd ((nI_leI (a := min 5 w) (b := i) (by omega) (by omega)).mp z) (by omega)))
              · refine lv_aload_n hx hb dX1_answer_76 rfl (lv_at hl 3 rfl) ?_
                refine va_get (D := Y.1) (ci := 0) (v := .ref (h 2)) (C := RX1) (T := TX1) (N := 2) hx hb hts in_X1 hown hK hP 0 rfl rfl 1 (by decide) (hts _ q102) (fun _ h9 => h9) rfl dX1_answer_77 ?_
                refine lv_iload hx hb dX1_answer_80 (lv_at hl 2 rfl) ?_
                refine lv_iload hx hb dX1_answer_82 (lv_at hl 0 rfl) ?_
                refine xgoI (xrunV (As := [.int (nI g), .int (nI i)]) (rest := []) ⟨hx, hb, hml, hown, hts⟩ (mX3_batch l Y h hh H.size _ _ g i w (by omega) hwv (by omega) (by omega)) (cwV 2 hts (lw_V q219 q220 q221 q13 q222) rfl rfl rfl (by decide +kernel) ⟨Nat.le_of_ble_eq_true rfl, Nat.le_of_ble_eq_true rfl⟩) ⟨bPre_bl, va_recv hK hP (ci := 2) (q0 := 2) rfl rfl, fun U hU hW => ⟨rfl, by rw [hU], by rw [hU]; exact hP, hYK.moved hW.alike⟩⟩ rfl rfl hl.1 rfl (lv_room (Nat.le_of_ble_eq_true rfl)) dX1_answer_84 ⟨Nat.le_of_ble_eq_true rfl, Nat.le_of_ble_eq_true rfl⟩) hS (fun q _ h => aA.le hS.1 h) (fun q h => aA.le hS.1 h) (fun H locs hP hz hk hS => ?_)
                refine xi_eq (nI k1) (hA i k1 (by omega) hk1) ?_
                refine lv_istore (lv' := [(9, .int (nI k1)), (8, .int (nI i)), (7, .int (nI k0)), (6, .int (nI g)), (0, .ref (h 0)), (1, .long p1), (3, .int e1), (4, .int s1), (5, .int l1)]) hx hb dX1_answer_87 hl (by decide) rfl (fun ls hl => ?_)
                refine lv_aload_n hx hb dX1_answer_89 rfl (lv_at hl 4 rfl) ?_
                refine va_get (D := Y.1) (ci := 0) (v := .ref (h 1)) (C := RX1) (T := TX1) (N := 2) hx hb hts in_X1 hown hK hP 0 rfl rfl 0 (by decide) (hts _ q101) (fun _ h9 => h9) rfl dX1_answer_90 ?_
                refine va_get (D := Y.1) (ci := 1) (v := .ref (h 5)) (C := RX2) (T := TX2) (N := 8) hx hb hts in_X2 hown hK hP 1 rfl rfl 2 (by decide) (hts _ q41) (fun _ h9 => h9) rfl dX1_answer_93 ?_
                refine lv_iload hx hb dX1_answer_96 (lv_at hl 0 rfl) ?_
                refine y_sald hx hb hK hP 5 2 fX rfl rfl k1 (by omega) (by decide) dX1_answer_98 ?_
                refine lv_iload_n hx hb dX1_answer_99 rfl (lv_at hl 6 rfl) ?_
                refine lv_icmp_ne (tgt := 144) hx hb dX1_answer_100 (by decide) (fun c_100 => ?_) (fun c_100 => ?_)
                · refine lv_iinc (v := nI (i + 1)) (lv' := [(8, .int (nI (i + 1))), (9, .int (nI k1)), (7, .int (nI k0)), (6, .int (nI g)), (0, .ref (h 0)), (1, .long p1), (3, .int e1), (4, .int s1), (5, .int l1)]) hx hb dX1_answer_144 hl (k := 1) rfl (inc1 _) (by decide) rfl (fun ls hl => ?_)
                  refine lv_goto (tgt := 62) hx hb dX1_answer_147 (by decide) ?_
                  exact ih (i + 1) (by omega) (dup_miss (L := ((n, e0), fB, fP, fX, fS, fL)) hd (by omega) hk1 (fun z => c_100 z.1)) _ _ hP hS ls (lv_sub hl [0, 2, 3, 4, 5, 6, 7, 8] rfl)
                · refine lv_aload_n hx hb dX1_answer_103 rfl (lv_at hl 4 rfl) ?_
                  refine va_get (D := Y.1) (ci := 0) (v := .ref (h 1)) (C := RX1) (T := TX1) (N := 2) hx hb hts in_X1 hown hK hP 0 rfl rfl 0 (by decide) (hts _ q101) (fun _ h9 => h9) rfl dX1_answer_104 ?_
                  refine va_get (D := Y.1) (ci := 1) (v := .ref (h 6)) (C := RX2) (T := TX2) (N := 8) hx hb hts in_X2 hown hK hP 1 rfl rfl 3 (by decide) (hts _ q43) (fun _ h9 => h9) rfl dX1_answer_107 ?_
                  refine lv_iload hx hb dX1_answer_110 (lv_at hl 0 rfl) ?_
                  refine y_iald hx hb hK hP 6 0 fS rfl rfl k1 (by omega) (by decide) dX1_answer_112 ?_
                  refine lv_iload hx hb dX1_answer_113 (lv_at hl 7 rfl) ?_
                  refine lv_icmp_ne (tgt := 144) hx hb dX1_answer_115 (by decide) (fun c_115 => ?_) (fun c_115 => ?_)
                  · refine lv_iinc (v := nI (i + 1)) (lv' := [(8, .int (nI (i + 1))), (9, .int (nI k1)), (7, .int (nI k0)), (6, .int (nI g)), (0, .ref (h 0)), (1, .long p1), (3, .int e1), (4, .int s1), (5, .int l1)]) hx hb dX1_answer_144 hl (k := 1) rfl (inc1 _) (by decide) rfl (fun ls hl => ?_)
                    refine lv_goto (tgt := 62) hx hb dX1_answer_147 (by decide) ?_
                    exact ih (i + 1) (by omega) (dup_miss (L := ((n, e0), fB, fP, fX, fS, fL)) hd (by omega) hk1 (fun z => c_115 z.2.1)) _ _ hP hS ls (lv_sub hl [0, 2, 3, 4, 5, 6, 7, 8] rfl)
                  · refine lv_aload_n hx hb dX1_answer_118 rfl (lv_at hl 4 rfl) ?_
                    refine va_get (D := Y.1) (ci := 0) (v := .ref (h 1)) (C := RX1) (T := TX1) (N := 2) hx hb hts in_X1 hown hK hP 0 rfl rfl 0 (by decide) (hts _ q101) (fun _ h9 => h9) rfl dX1_answer_119 ?_
                    refine va_get (D := Y.1) (ci := 1) (v := .ref (h 7)) (C := RX2) (T := TX2) (N := 8) hx hb hts in_X2 hown hK hP 1 rfl rfl 4 (by decide) (hts _ q45) (fun _ h9 => h9) rfl dX1_answer_122 ?_
                    refine lv_iload hx hb dX1_answer_125 (lv_at hl 0 rfl) ?_
                    refine y_sald hx hb hK hP 7 2 fL rfl rfl k1 (by omega) (by decide) dX1_answer_127 ?_
                    refine lv_iload hx hb dX1_answer_128 (lv_at hl 8 rfl) ?_
                    refine lv_icmp_ne (tgt := 144) hx hb dX1_answer_130 (by decide) (fun c_130 => ?_) (fun c_130 => ?_)
                    · refine lv_iinc (v := nI (i + 1)) (lv' := [(8, .int (nI (i + 1))), (9, .int (nI k1)), (7, .int (nI k0)), (6, .int (nI g)), (0, .ref (h 0)), (1, .long p1), (3, .int e1), (4, .int s1), (5, .int l1)]) hx hb dX1_answer_144 hl (k := 1) rfl (inc1 _) (by decide) rfl (fun ls hl => ?_)
                      refine lv_goto (tgt := 62) hx hb dX1_answer_147 (by decide) ?_
                      exact ih (i + 1) (by omega) (dup_miss (L := ((n, e0), fB, fP, fX, fS, fL)) hd (by omega) hk1 (fun z => c_130 z.2.2)) _ _ hP hS ls (lv_sub hl [0, 2, 3, 4, 5, 6, 7, 8] rfl)
                    · refine lv_aload_n hx hb dX1_answer_133 rfl (lv_at hl 4 rfl) ?_
                      refine va_get (D := Y.1) (ci := 0) (v := .ref (h 1)) (C := RX1) (T := TX1) (N := 2) hx hb hts in_X1 hown hK hP 0 rfl rfl 0 (by decide) (hts _ q101) (fun _ h9 => h9) rfl dX1_answer_134 ?_
                      refine va_get (D := Y.1) (ci := 1) (v := .ref (h 3)) (C := RX2) (T := TX2) (N := 8) hx hb hts in_X2 hown hK hP 1 rfl rfl 0 (by decide) (hts _ q36) (fun _ h9 => h9) rfl dX1_answer_137 ?_
                      refine lv_iload hx hb dX1_answer_140 (lv_at hl 0 rfl) ?_
                      refine y_iald hx hb hK hP 3 0 fB rfl rfl k1 (by omega) (by decide) dX1_answer_142 ?_
                      exact xiret hx hb hr hlk hS dX1_answer_143 (⟨ri (judge_hit (L := ((n, e0), fB, fP, fX, fS, fL)) hp0 hk0 (i32_le.mpr c_53) hd (by omega) hk1 c_100 c_115 c_130), hP⟩)
          exact loop (min 5 w) 0 (by omega) rfl _ _ hP hS ls (lv_sub hl [0, 1, 2, 3, 4, 5, 6, 7] rfl)
        · refine lv_bipush (v := (-6)) hx hb dX1_answer_56 (by decide) ?_
          exact xiret hx hb hr hlk hS dX1_answer_58 (⟨ri (by rw [judge_some (L := ((n, e0), fB, fP, fX, fS, fL)) hp0 hk0, if_pos (i32_lt.mp c_53)]), hP⟩)
      · exact absurd c_25 (m1_ne (by omega))
  · rw [lg_cmp_eq] at c_5
    have hp0 : p1 < 0 := by rw [c_5]; decide
    refine lv_iconst (v := (-1)) hx hb dX1_answer_8 (by decide) ?_
    refine lv_goto (tgt := 20) hx hb dX1_answer_9 (by decide) ?_
    refine lv_istore (lv' := [(6, .int (-1)), (0, .ref (h 0)), (1, .long p1), (3, .int e1), (4, .int s1), (5, .int l1)]) hx hb dX1_answer_20 hl (by decide) rfl (fun ls hl => ?_)
    refine lv_iload hx hb dX1_answer_22 (lv_at hl 0 rfl) ?_
    refine lv_iconst (v := (-1)) hx hb dX1_answer_24 (by decide) ?_
    refine lv_icmp_ne (tgt := 30) hx hb dX1_answer_25 (by decide) (fun c_25 => ?_) (fun c_25 => ?_)
    · exact absurd (rfl) c_25
    · refine lv_iconst (v := (-1)) hx hb dX1_answer_28 (by decide) ?_
      exact xiret hx hb hr hlk hS dX1_answer_29 (⟨ri (judge_neg hp0).symm, hP⟩)
end
section
/-! ProducerBook: send (written by prog/book1.py) -/
set_option maxRecDepth 100000
set_option maxHeartbeats 4000000 in
theorem mX1_send (l : Launch) (Y : YT) (h : Nat → Nat) (hh : aD 13 h) (sz : Nat) (L : Lg) (P : Pg) (p1 : Int64) (e1 s1 l1 : Int32) (hn : gN L < 2000) (he : vp_nar .short e1 = e1) (hl1 : vp_nar .short l1 = l1) (hok : PgOK (gP L) (gN L) P) : XMet l yX1_send (ws_ yX1_send cX1_send 6 (some .int)) ({ frames := 3, cells := 0, slots := 0, locals := 72 }) (bPre Y h L P sz [.ref (h 0), .long p1, .int e1, .int s1, .int l1]) (xQ (pI (gE L) (fun H => ∃ P2, PgOK (gP (lgPush L p1 e1 s1 l1)) (gN L + 1) P2 ∧ bH Y h (lgPush L p1 e1 s1 l1) P2 H)) (aA 13 h sz)) 0 0 (aA 13 h sz) := by
  refine XMet.ofW (cc := cX1_send) (maxL := 6) (ret := (some .int)) (by decide) rfl ?_
  intro p e s m args below meth c s₁ B hml hno hv
  obtain ⟨rfl, hsz, hP, hYK⟩ := hv
  obtain ⟨⟨n, e0⟩, fB, fP, fX, fS, fL⟩ := L
  obtain ⟨pn, fK, fT, fO, fA, fW⟩ := P
  have hx := B.exec
  have hb := B.bytes
  have hr := B.returns
  have hlk := B.notSynchronized
  have hts := atoms_spec (ws := ws_ yX1_send cX1_send 6 (some .int)) B.pre
  have hts : ∀ w ∈ lw_all, w.before _ s = true := fun w h => hts w (List.mem_cons_of_mem _ h)
  have hown : s.vm.findClass RX1 = some m.cls := findClass_of_methodNamed B.named
  subst hsz
  have hK := hYK.1
  have hP0 := hP
  have hS : va_S (aA 13 h s.heap.size) s.heap s.heap [] := va_S.rf
  have hl := lv_entry [.ref (h 0), .long p1, .int e1, .int s1, .int l1] (n := 6) (Nat.le_of_ble_eq_true rfl)
  rw [lg_entry_eq]
  generalize (lg_sl [.ref (h 0), .long p1, .int e1, .int s1, .int l1] ++ List.replicate (6 - (lg_sl [.ref (h 0), .long p1, .int e1, .int s1, .int l1]).length) Slot.unset).toArray = ls at hl ⊢
  have hl : lv_has ls 6 [(0, .ref (h 0)), (1, .long p1), (3, .int e1), (4, .int s1), (5, .int l1)] := hl
  have hn : n < 2000 := hn
  refine lv_aload_n hx hb dX1_send_0 rfl (lv_at hl 0 rfl) ?_
  refine va_get (D := Y.1) (ci := 0) (v := .ref (h 1)) (C := RX1) (T := TX1) (N := 2) hx hb hts in_X1 hown hK hP 0 rfl rfl 0 (by decide) (hts _ q101) (fun _ h9 => h9) rfl dX1_send_1 ?_
  refine lv_lload_n hx hb dX1_send_4 rfl (lv_at hl 1 rfl) ?_
  refine lv_iload_n hx hb dX1_send_5 rfl (lv_at hl 2 rfl) ?_
  refine lv_iload hx hb dX1_send_6 (lv_at hl 3 rfl) ?_
  refine lv_iload hx hb dX1_send_8 (lv_at hl 4 rfl) ?_
  refine xgoV (xrunV (As := [.long p1, .int e1, .int s1, .int l1]) (rest := []) ⟨hx, hb, hml, hown, hts⟩ (mX2_add l Y h hh s.heap.size _ _ p1 e1 s1 l1 hn he hl1) (cwV 4 hts (lw_V q258 q259 q260 q12 q261) rfl rfl rfl (by decide +kernel) ⟨Nat.le_of_ble_eq_true rfl, Nat.le_of_ble_eq_true rfl⟩) ⟨bPre_bl, va_recv hK hP (ci := 1) (q0 := 1) rfl rfl, fun U hU hW => ⟨rfl, by rw [hU], by rw [hU]; exact hP, hYK.moved hW.alike⟩⟩ rfl rfl hl.1 rfl (lv_room (Nat.le_of_ble_eq_true rfl)) dX1_send_10 ⟨Nat.le_of_ble_eq_true rfl, Nat.le_of_ble_eq_true rfl⟩) hS (fun q _ h => aA.le hS.1 h) (fun q h => aA.le hS.1 h) (fun H locs hP hz hk hS => ?_)
  have hP : bH Y h (((n + 1), (e0 + (l1 + 1))), (upd fB n e0), (vp_updL fP n p1), (upd fX n e1), (upd fS n s1), (upd fL n l1)) (pn, (upd fK n 0), fT, fO, fA, fW) H := hP
  refine lv_aload_n hx hb dX1_send_13 rfl (lv_at hl 0 rfl) ?_
  refine va_get (D := Y.1) (ci := 0) (v := .ref (h 2)) (C := RX1) (T := TX1) (N := 2) hx hb hts in_X1 hown hK hP 0 rfl rfl 1 (by decide) (hts _ q102) (fun _ h9 => h9) rfl dX1_send_14 ?_
  refine lv_aload_n hx hb dX1_send_17 rfl (lv_at hl 0 rfl) ?_
  refine va_get (D := Y.1) (ci := 0) (v := .ref (h 1)) (C := RX1) (T := TX1) (N := 2) hx hb hts in_X1 hown hK hP 0 rfl rfl 0 (by decide) (hts _ q101) (fun _ h9 => h9) rfl dX1_send_18 ?_
  refine va_get (D := Y.1) (ci := 1) (v := .int (nI (n + 1))) (C := RX2) (T := TX2) (N := 8) hx hb hts in_X2 hown hK hP 1 rfl rfl 6 (by decide) (hts _ q50) (fun _ h9 => h9) rfl dX1_send_21 ?_
  refine lv_iconst (v := 1) hx hb dX1_send_24 (by decide) ?_
  refine lv_isub hx hb dX1_send_25 ?_
  refine xi_eq (nI n) (nI_pred n) ?_
  refine xgoV (xrunV (As := [.int (nI n)]) (rest := []) ⟨hx, hb, hml, hown, hts⟩ (mX3_write l Y h hh H.size _ _ n hn (pg_K (pg_congr (fun j hj => (pk_uLn (Nat.ne_of_lt hj)).symm) hok) 0) pk_us) (cwV 1 hts (lw_V q262 q121 q122 q13 q123) rfl rfl rfl (by decide +kernel) ⟨Nat.le_of_ble_eq_true rfl, Nat.le_of_ble_eq_true rfl⟩) ⟨bPre_bl, va_recv hK hP (ci := 2) (q0 := 2) rfl rfl, fun U hU hW => ⟨rfl, by rw [hU], by rw [hU]; exact hP, hYK.moved hW.alike⟩⟩ rfl rfl hl.1 rfl (lv_room (Nat.le_of_ble_eq_true rfl)) dX1_send_26 ⟨Nat.le_of_ble_eq_true rfl, Nat.le_of_ble_eq_true rfl⟩) hS (fun q _ h => aA.le hS.1 h) (fun q h => aA.le hS.1 h) (fun H locs hP hz hk hS => ?_)
  obtain ⟨P2, hok2, hP⟩ := hP
  obtain ⟨pn, fK, fT, fO, fA, fW⟩ := P2
  refine lv_aload_n hx hb dX1_send_29 rfl (lv_at hl 0 rfl) ?_
  refine va_get (D := Y.1) (ci := 0) (v := .ref (h 1)) (C := RX1) (T := TX1) (N := 2) hx hb hts in_X1 hown hK hP 0 rfl rfl 0 (by decide) (hts _ q101) (fun _ h9 => h9) rfl dX1_send_30 ?_
  refine va_get (D := Y.1) (ci := 1) (v := .ref (h 3)) (C := RX2) (T := TX2) (N := 8) hx hb hts in_X2 hown hK hP 1 rfl rfl 0 (by decide) (hts _ q36) (fun _ h9 => h9) rfl dX1_send_33 ?_
  refine lv_aload_n hx hb dX1_send_36 rfl (lv_at hl 0 rfl) ?_
  refine va_get (D := Y.1) (ci := 0) (v := .ref (h 1)) (C := RX1) (T := TX1) (N := 2) hx hb hts in_X1 hown hK hP 0 rfl rfl 0 (by decide) (hts _ q101) (fun _ h9 => h9) rfl dX1_send_37 ?_
  refine va_get (D := Y.1) (ci := 1) (v := .int (nI (n + 1))) (C := RX2) (T := TX2) (N := 8) hx hb hts in_X2 hown hK hP 1 rfl rfl 6 (by decide) (hts _ q50) (fun _ h9 => h9) rfl dX1_send_40 ?_
  refine lv_iconst (v := 1) hx hb dX1_send_43 (by decide) ?_
  refine lv_isub hx hb dX1_send_44 ?_
  refine xi_eq (nI n) (nI_pred n) ?_
  refine y_iald hx hb hK hP 3 0 (upd fB n e0) rfl rfl n (by omega) (by decide) dX1_send_45 ?_
  refine xi_eq e0 (pk_us) ?_
  exact xiret hx hb hr hlk hS dX1_send_46 (⟨rfl, _, hok2, hP⟩)
end
section
/-! laws of what the calls answer -/
set_option maxRecDepth 100000
theorem of_bad {L : Lg} {p : Int64} {e s l : Int32} (h : ¬ okB p e s l) : ofR L p e s l = (1, 0, L) := by unfold ofR; rw [if_pos h]
theorem of_told {L : Lg} {p : Int64} {e s l : Int32} (h : okB p e s l) (hj : ¬ judge L p e s l = -1) : ofR L p e s l = (0, judge L p e s l, L) := by unfold ofR; rw [if_neg (fun z => z h), if_pos hj]
theorem of_full {L : Lg} {p : Int64} {e s l : Int32} (h : okB p e s l) (hj : judge L p e s l = -1) (hf : full L l) : ofR L p e s l = (2, 0, L) := by unfold ofR; rw [if_neg (fun z => z h), if_neg (fun z => z hj), if_pos hf]
theorem of_push {L : Lg} {p : Int64} {e s l : Int32} (h : okB p e s l) (hj : judge L p e s l = -1) (hf : ¬ full L l) : ofR L p e s l = (0, gE L, lgPush L p e s l) := by unfold ofR; rw [if_neg (fun z => z h), if_neg (fun z => z hj), if_neg hf]
theorem of_ok {L : Lg} (p : Int64) (e s l : Int32) (h : LogOK L) : LogOK (ofR L p e s l).2.2 := by
  by_cases hb : okB p e s l
  · by_cases hj : judge L p e s l = -1
    · by_cases hf : full L l
      · rw [of_full hb hj hf]; exact h
      · rw [of_push hb hj hf]
        exact log_push h hb (by have : ¬ 2000 ≤ gN L := fun z => hf (Or.inl z); omega) (log_end h (okB_nar hb).2.2.1 (fun z => hf (Or.inr z)))
    · rw [of_told hb hj]; exact h
  · rw [of_bad hb]; exact h
theorem aft_pos (s l : Int32) : 0 ≤ aft s l := by
  unfold aft
  rw [pk_and (s + l + 1) 31 (by decide)]
  exact nI_pos' (Nat.mod_lt _ (by decide))
theorem okB_nxt {p : Int64} {e s l : Int32} (h : okB p e s l) : okB p e (nxt p s l) l := by
  obtain ⟨h1, h2⟩ := h
  refine ⟨h1, ?_⟩
  unfold nxt
  rcases h2 with ⟨h3, h4, h5⟩ | ⟨h3, h4, h5, h6⟩
  · exact Or.inl ⟨h3, h4, by rw [if_pos h3]⟩
  · exact Or.inr ⟨h3, h4, h5, by rw [if_neg h3]; exact aft_pos s l⟩
theorem os_hit {L : Lg} {p : Int64} {e s l : Int32} {k : Nat} (h : judge (osL L p e s l k).1 p e (osL L p e s l k).2.1 l = -1) : osL L p e s l (k + 1) = (lgPush (osL L p e s l k).1 p e (osL L p e s l k).2.1 l, nxt p (osL L p e s l k).2.1 l, (osL L p e s l k).2.2 + 1) := by
  rw [osL, if_pos h]
theorem os_miss {L : Lg} {p : Int64} {e s l : Int32} {k : Nat} (h : ¬ judge (osL L p e s l k).1 p e (osL L p e s l k).2.1 l = -1) : osL L p e s l (k + 1) = ((osL L p e s l k).1, nxt p (osL L p e s l k).2.1 l, (osL L p e s l k).2.2) := by
  rw [osL, if_neg h]
theorem os_inv {L : Lg} {p : Int64} {e s l : Int32} {N : Nat} (hN : N ≤ 500) (h : LogOK L) (hb : okB p e s l) (hf : ¬ osFull L (nI N) l) : ∀ k, k ≤ N →
    LogOK (osL L p e s l k).1 ∧ okB p e (osL L p e s l k).2.1 l ∧ gN (osL L p e s l k).1 = gN L + (osL L p e s l k).2.2 ∧ (osL L p e s l k).2.2 ≤ k ∧ gE (osL L p e s l k).1 = gE L + nI ((osL L p e s l k).2.2) * (l + 1) ∧ (k < N → gN (osL L p e s l k).1 < 2000) := by
  obtain ⟨b1, b2, ⟨q, hq, eq⟩, b4⟩ := okB_nar hb
  obtain ⟨E, hE, eE⟩ := h.2.1
  have hn2 : gN L + N ≤ 2000 := by
    have z := fun z => hf (Or.inl z)
    rw [nI_add] at z
    have hn := h.1
    have h9 : ¬ 2000 < gN L + N := fun y => z ((nI_ltI (a := 2000) (b := gN L + N) (by decide) (by omega)).mpr y)
    omega
  have he2 : E + N * (q + 1) ≤ 1000000 := by
    have z := fun z => hf (Or.inr z)
    have hm : N * (q + 1) ≤ 500 * 1000 := Nat.mul_le_mul hN (by omega)
    rw [eE, eq, nI_1, pk_mul, nI_add] at z
    have h9 : ¬ 1000000 < E + N * (q + 1) := fun y => z ((nI_ltI (a := 1000000) (b := E + N * (q + 1)) (by decide) (by omega)).mpr y)
    omega
  intro k
  induction k with
  | zero =>
    intro _
    refine ⟨h, hb, rfl, Nat.le_refl 0, ?_, fun z => by show gN L < 2000; omega⟩
    show gE L = gE L + nI 0 * (l + 1)
    rw [nI_0]
    simp
  | succ k ih =>
    intro hk
    obtain ⟨i1, i2, i3, i4, i5, i6⟩ := ih (by omega)
    have i6 := i6 (by omega)
    by_cases hj : judge (osL L p e s l k).1 p e (osL L p e s l k).2.1 l = -1
    · rw [os_hit hj]
      generalize osL L p e s l k = T at *
      obtain ⟨L1, x1, c1⟩ := T
      dsimp only at i1 i2 i3 i4 i5 i6 ⊢
      have hmul : (c1 + 1) * (q + 1) ≤ N * (q + 1) := Nat.mul_le_mul_right _ (by omega)
      have e1 : gE L1 + (l + 1) = gE L + nI (c1 + 1) * (l + 1) := by
        rw [i5, eE, eq, nI_1, pk_mul, pk_mul, nI_add, nI_add, nI_add]
        congr 1
        rw [Nat.add_mul]
        omega
      refine ⟨log_push i1 i2 i6 ⟨E + (c1 + 1) * (q + 1), by omega, ?_⟩, okB_nxt i2, ?_, by omega, e1, fun z => ?_⟩
      · rw [e1, eE, eq, nI_1, pk_mul, nI_add]
      · show gN L1 + 1 = gN L + (c1 + 1)
        omega
      · show gN L1 + 1 < 2000
        omega
    · rw [os_miss hj]
      exact ⟨i1, okB_nxt i2, i3, by show (osL L p e s l k).2.2 ≤ k + 1; omega, i5, fun z => i6⟩
theorem n_nat {n : Int32} (h1 : ¬ n < 1) (h2 : ¬ 500 < n) : ∃ N : Nat, 1 ≤ N ∧ N ≤ 500 ∧ n = nI N := by
  rw [Int32.lt_iff_toInt_lt, show (1 : Int32).toInt = 1 by decide] at h1
  rw [Int32.lt_iff_toInt_lt, show (500 : Int32).toInt = 500 by decide] at h2
  obtain ⟨N, hN, e⟩ := nI_of (x := n) (by rw [Int32.lt_iff_toInt_lt, show (0 : Int32).toInt = 0 by decide]; omega)
  rw [e, nI_toInt hN] at h1 h2
  exact ⟨N, by omega, by omega, e⟩
theorem n_2000 {n : Int32} (h1 : ¬ n < 0) (h2 : ¬ 2000 < n) : ∃ N : Nat, N ≤ 2000 ∧ n = nI N := by
  obtain ⟨N, hN, e⟩ := nI_of h1
  rw [e] at h2
  have : ¬ 2000 < N := fun z => h2 ((nI_ltI (a := 2000) (b := N) (by decide) hN).mpr z)
  exact ⟨N, by omega, e⟩
theorem os_bad {L : Lg} {n : Int32} {p : Int64} {e s l : Int32} (h : ¬ okB p e s l ∨ n < 1 ∨ 500 < n) : osR L n p e s l = (1, 0, L) := by unfold osR; rw [if_pos h]
theorem os_full {L : Lg} {n : Int32} {p : Int64} {e s l : Int32} (hb : okB p e s l) (h1 : ¬ n < 1) (h2 : ¬ 500 < n) (hf : osFull L n l) : osR L n p e s l = (2, 0, L) := by
  unfold osR
  rw [if_neg (fun z => z.elim (fun y => y hb) (fun y => y.elim h1 h2)), if_pos hf]
theorem os_run {L : Lg} {N : Nat} {p : Int64} {e s l : Int32} (hb : okB p e s l) (hN : 1 ≤ N) (hN2 : N ≤ 500) (hf : ¬ osFull L (nI N) l) : osR L (nI N) p e s l = (0, nI (osL L p e s l N).2.2, (osL L p e s l N).1) := by
  unfold osR
  have h1 : ¬ nI N < 1 := nI_nlt (b := 1) (by omega) (by omega)
  have h2 : ¬ 500 < nI N := nI_nlt (a := 500) (b := N) (by omega) (by decide)
  rw [if_neg (fun z => z.elim (fun y => y hb) (fun y => y.elim h1 h2)), if_neg hf, nI_clamp (by omega)]
theorem os_ok {L : Lg} (n : Int32) (p : Int64) (e s l : Int32) (h : LogOK L) : LogOK (osR L n p e s l).2.2 := by
  by_cases hb : ¬ okB p e s l ∨ n < 1 ∨ 500 < n
  · rw [os_bad hb]; exact h
  · have b1 : okB p e s l := Classical.byContradiction (fun z => hb (Or.inl z))
    have b2 : ¬ n < 1 := fun z => hb (Or.inr (Or.inl z))
    have b3 : ¬ 500 < n := fun z => hb (Or.inr (Or.inr z))
    by_cases hf : osFull L n l
    · rw [os_full b1 b2 b3 hf]; exact h
    · obtain ⟨N, n1, n2, rfl⟩ := n_nat b2 b3
      rw [os_run b1 n1 n2 hf]
      exact (os_inv n2 h b1 hf N (Nat.le_refl N)).1
theorem dr_bad {L : Lg} {n : Int32} (h : n < 0 ∨ 2000 < n) : drR L n = (1, 0, L) := by unfold drR; rw [if_pos h]
theorem dr_run {L : Lg} {N : Nat} (hN : N ≤ 2000) : drR L (nI N) = (0, nI (min N (gN L)), lgCut (drL L (min N (gN L)) (gN L - min N (gN L))) (gN L - min N (gN L))) := by
  unfold drR drG
  rw [nI_clamp (by omega), if_neg (fun z => z.elim (nI_pos (by omega)) (nI_nlt (a := 2000) (b := N) hN (by decide)))]
theorem drL_ok {L : Lg} (g : Nat) (h : LogOK L) : ∀ j, LogOK (drL L g j)
  | 0 => h
  | j + 1 => log_move (drL_ok g h j)
theorem drL_n (L : Lg) (g : Nat) : ∀ j, (drL L g j).1 = L.1
  | 0 => rfl
  | j + 1 => drL_n L g j
theorem dr_ok {L : Lg} (n : Int32) (h : LogOK L) : LogOK (drR L n).2.2 := by
  unfold drR
  split
  · exact h
  · exact log_cut (drL_ok _ h _) (by have := h.1; omega)
theorem thL_ok {L : Lg} (h : LogOK L) : ∀ k, LogOK (thL L k).2 ∧ (thL L k).1 ≤ k ∧ (thL L k).2.1 = L.1
  | 0 => ⟨h, Nat.le_refl 0, rfl⟩
  | k + 1 => by
    obtain ⟨h1, h2, h3⟩ := thL_ok h k
    unfold thL
    split
    · exact ⟨log_move h1, by show (thL L k).1 + 1 ≤ k + 1; omega, h3⟩
    · exact ⟨h1, by omega, h3⟩
theorem th_ok {L : Lg} (h : LogOK L) : LogOK (thR L).2 := by
  obtain ⟨h1, h2, h3⟩ := thL_ok h (gN L)
  exact log_cut h1 (by have := h.1; omega)
/-- rows that thin hasn't come to are as they were -/
theorem thL_hi (L : Lg) : ∀ k j, k ≤ j → gP (thL L k).2 j = gP L j
  | 0, j, _ => rfl
  | k + 1, j, hj => by
    have h1 := thL_hi L k j (by omega)
    have h2 : (thL L k).1 ≤ k := by
      clear h1 hj
      induction k with
      | zero => exact Nat.le_refl 0
      | succ k ih => unfold thL; split <;> omega
    unfold thL
    split
    · show vp_updL (gP (thL L k).2) (thL L k).1 _ j = gP L j
      rw [pk_uLn (by omega)]
      exact h1
    · exact h1
theorem th_hit {L : Lg} {k : Nat} (h : kno (gP L) k (gN L)) : thL L (k + 1) = ((thL L k).1 + 1, lgMove (thL L k).2 k (thL L k).1) := by rw [thL, if_pos h]
theorem th_miss {L : Lg} {k : Nat} (h : ¬ kno (gP L) k (gN L)) : thL L (k + 1) = thL L k := by rw [thL, if_neg h]
theorem min_if {a b : Nat} (ha : a < 2 ^ 31) (hb : b < 2 ^ 31) : (if nI b < nI a then nI b else nI a) = nI (min a b) := by
  by_cases c : b < a
  · rw [if_pos (nI_lt c ha), Nat.min_eq_right (by omega)]
  · rw [if_neg (nI_nlt (by omega) hb), Nat.min_eq_left (by omega)]
theorem XMet.mono {l : Launch} {y : MethodName} {ws : List Cond} {rm : Room} {Pc : Array Value → State → Prop} {Post Post' : Outcome → Heap → Prop} {A : Nat → Prop} {mc ms : Nat} {free : Addr → Prop} (h : ∀ o H, Post o H → Post' o H) (hM : XMet l y ws rm Pc (xQ Post A) mc ms free) : XMet l y ws rm Pc (xQ Post' A) mc ms free := by
  intro p e ha hc hk s m args below hf happ hP hK
  obtain ⟨n, o, h1, h2, h3, ⟨h4, h5⟩, h6⟩ := hM p e ha hc hk s m args below hf happ hP hK
  exact ⟨n, o, h1, h2, h3, ⟨h _ _ h4, h5⟩, h6⟩
theorem mX1_isBatch_ok (l : Launch) (Y : YT) (sz : Nat) (hfl : l.flags = flags0) {p1 : Int64} {e1 s1 l1 : Int32} (hB : okB p1 e1 s1 l1) : XMet l yX1_isBatch (ws_ yX1_isBatch cX1_isBatch 5 none) ({ frames := 7, cells := 1, slots := 6, locals := 101 }) (sPreX Y sz [.long p1, .int e1, .int s1, .int l1]) (xQ (pV (fun _ => True)) (sA sz)) 1 6 (sA sz) :=
  XMet.mono (fun o H h => by
    rcases h with ⟨h1, h2⟩ | ⟨h1, -⟩
    · exact ⟨h2, trivial⟩
    · exact absurd hB h1) (mX1_isBatch l Y sz hfl p1 e1 s1 l1)
theorem mX1_isBatch_no (l : Launch) (Y : YT) (sz : Nat) (hfl : l.flags = flags0) {p1 : Int64} {e1 s1 l1 : Int32} (hB : ¬ okB p1 e1 s1 l1) : XMet l yX1_isBatch (ws_ yX1_isBatch cX1_isBatch 5 none) ({ frames := 7, cells := 1, slots := 6, locals := 101 }) (sPreX Y sz [.long p1, .int e1, .int s1, .int l1]) (xQ (fun o H => ∃ a, o = .threw a ∧ thr Y.2.2.1 a H) (sA sz)) 1 6 (sA sz) :=
  XMet.mono (fun o H h => by
    rcases h with ⟨h1, h2⟩ | ⟨-, h2⟩
    · exact absurd h1 hB
    · exact h2) (mX1_isBatch l Y sz hfl p1 e1 s1 l1)
end
section
/-! ProducerBook: offer (written by prog/book2.py) -/
set_option maxRecDepth 100000
set_option maxHeartbeats 4000000 in
theorem mX1_offer (l : Launch) (Y : YT) (h : Nat → Nat) (hh : aD 13 h) (sz : Nat) (L : Lg) (P : Pg) (hfl : l.flags = flags0) (p1 : Int64) (e1 s1 l1 : Int32) (hlg : LogOK L) (hok : PgOK (gP L) (gN L) P) : XMet l yX1_offer (ws_ yX1_offer cX1_offer 7 (some .int)) ({ frames := 8, cells := 2, slots := 12, locals := 125 }) (bPreX Y h L P sz [.ref (h 0), .long p1, .int e1, .int s1, .int l1]) (xQ (fun o H => xpost Y (ofR L p1 e1 s1 l1).1 (.int (ofR L p1 e1 s1 l1).2.1) o H ∧ ∃ P2, PgOK (gP (ofR L p1 e1 s1 l1).2.2) (gN (ofR L p1 e1 s1 l1).2.2) P2 ∧ bH Y h (ofR L p1 e1 s1 l1).2.2 P2 H) (aA 13 h sz)) 2 12 (aA 13 h sz) := by
  refine XMet.ofW (cc := cX1_offer) (maxL := 7) (ret := (some .int)) (by decide) rfl ?_
  intro p e s m args below meth c s₁ B hml hno hv
  obtain ⟨rfl, hsz, hP, hYK, hex⟩ := hv
  obtain ⟨⟨n, e0⟩, fB, fP, fX, fS, fL⟩ := L
  obtain ⟨pn, fK, fT, fO, fA, fW⟩ := P
  have hx := B.exec
  have hb := B.bytes
  have hr := B.returns
  have hlk := B.notSynchronized
  have hts := atoms_spec (ws := ws_ yX1_offer cX1_offer 7 (some .int)) B.pre
  have hts : ∀ w ∈ lw_all, w.before _ s = true := fun w h => hts w (List.mem_cons_of_mem _ h)
  have hown : s.vm.findClass RX1 = some m.cls := findClass_of_methodNamed B.named
  subst hsz
  have hK := hYK.1
  have hP0 := hP
  have hS : va_S (aA 13 h s.heap.size) s.heap s.heap [] := va_S.rf
  have hl := lv_entry [.ref (h 0), .long p1, .int e1, .int s1, .int l1] (n := 7) (Nat.le_of_ble_eq_true rfl)
  rw [lg_entry_eq]
  generalize (lg_sl [.ref (h 0), .long p1, .int e1, .int s1, .int l1] ++ List.replicate (7 - (lg_sl [.ref (h 0), .long p1, .int e1, .int s1, .int l1]).length) Slot.unset).toArray = ls at hl ⊢
  have hl : lv_has ls 7 [(0, .ref (h 0)), (1, .long p1), (3, .int e1), (4, .int s1), (5, .int l1)] := hl
  refine lv_lload_n hx hb dX1_offer_0 rfl (lv_at hl 1 rfl) ?_
  refine lv_iload_n hx hb dX1_offer_1 rfl (lv_at hl 2 rfl) ?_
  refine lv_iload hx hb dX1_offer_2 (lv_at hl 3 rfl) ?_
  refine lv_iload hx hb dX1_offer_4 (lv_at hl 4 rfl) ?_
  by_cases hB : okB p1 e1 s1 l1
  · have hq := okB_nar hB
    refine xgoV (xrunS (As := [.long p1, .int e1, .int s1, .int l1]) (rest := []) ⟨hx, hb, hml, hown, hts⟩ (mX1_isBatch_ok l Y s.heap.size hfl hB) (va_cwS 4 hts (lw_S q142 q143 q11 q144) rfl rfl rfl (by decide +kernel) ⟨Nat.le_of_ble_eq_true rfl, Nat.le_of_ble_eq_true rfl⟩) ⟨sPreX_bl, fun U hU hW => ⟨rfl, by rw [hU], hYK.moved hW.alike, hex.moved hW (by rw [hU]; exact bk_kept hP0 hS)⟩⟩ rfl rfl hl.1 rfl (lv_room (Nat.le_of_ble_eq_true rfl)) dX1_offer_6 ⟨Nat.le_of_ble_eq_true rfl, Nat.le_of_ble_eq_true rfl⟩) hS (fun q _ h => Or.inr (Nat.le_trans hS.1 h)) (fun q h => Or.inr (Nat.le_trans hS.1 h)) (fun H locs _ hz hk hS => ?_)
    have hP := sA_keep hP hk
    refine lv_aload_n hx hb dX1_offer_9 rfl (lv_at hl 0 rfl) ?_
    refine lv_lload_n hx hb dX1_offer_10 rfl (lv_at hl 1 rfl) ?_
    refine lv_iload_n hx hb dX1_offer_11 rfl (lv_at hl 2 rfl) ?_
    refine lv_iload hx hb dX1_offer_12 (lv_at hl 3 rfl) ?_
    refine lv_iload hx hb dX1_offer_14 (lv_at hl 4 rfl) ?_
    refine xgoI (xrunV (As := [.long p1, .int e1, .int s1, .int l1]) (rest := []) ⟨hx, hb, hml, hown, hts⟩ (mX1_answer l Y h hh H.size _ _ p1 e1 s1 l1 hB.1.2.2 hlg hok) (cwV 4 hts (lw_V q211 q213 qs2 q11 q214) rfl rfl rfl (by decide +kernel) ⟨Nat.le_of_ble_eq_true rfl, Nat.le_of_ble_eq_true rfl⟩) ⟨bPre_bl, va_recv hK hP (ci := 0) (q0 := 0) rfl rfl, fun U hU hW => ⟨rfl, by rw [hU], by rw [hU]; exact hP, hYK.moved hW.alike⟩⟩ rfl rfl hl.1 rfl (lv_room (Nat.le_of_ble_eq_true rfl)) dX1_offer_16 ⟨Nat.le_of_ble_eq_true rfl, Nat.le_of_ble_eq_true rfl⟩) hS (fun q _ h => aA.le hS.1 h) (fun q h => aA.le hS.1 h) (fun H locs hP hz hk hS => ?_)
    refine lv_istore (lv' := [(6, .int (judge ((n, e0), fB, fP, fX, fS, fL) p1 e1 s1 l1)), (0, .ref (h 0)), (1, .long p1), (3, .int e1), (4, .int s1), (5, .int l1)]) hx hb dX1_offer_19 hl (by decide) rfl (fun ls hl => ?_)
    refine lv_iload hx hb dX1_offer_21 (lv_at hl 0 rfl) ?_
    refine lv_iconst (v := (-1)) hx hb dX1_offer_23 (by decide) ?_
    refine lv_icmp_eq (tgt := 30) hx hb dX1_offer_24 (by decide) (fun c_24 => ?_) (fun c_24 => ?_)
    · refine lv_aload_n hx hb dX1_offer_30 rfl (lv_at hl 1 rfl) ?_
      refine va_get (D := Y.1) (ci := 0) (v := .ref (h 1)) (C := RX1) (T := TX1) (N := 2) hx hb hts in_X1 hown hK hP 0 rfl rfl 0 (by decide) (hts _ q101) (fun _ h9 => h9) rfl dX1_offer_31 ?_
      refine va_get (D := Y.1) (ci := 1) (v := .int (nI n)) (C := RX2) (T := TX2) (N := 8) hx hb hts in_X2 hown hK hP 1 rfl rfl 6 (by decide) (hts _ q50) (fun _ h9 => h9) rfl dX1_offer_34 ?_
      refine lv_sipush (v := 2000) hx hb dX1_offer_37 (by decide) ?_
      refine lv_icmp_ge (tgt := 64) hx hb dX1_offer_40 (by decide) (fun c_40 => ?_) (fun c_40 => ?_)
      · have hfu : full ((n, e0), fB, fP, fX, fS, fL) l1 := Or.inl ((nI_leI (a := 2000) (b := n) (by decide) (by have : n ≤ 2000 := hlg.1; omega)).mp c_40)
        refine lv_iconst (v := 0) hx hb dX1_offer_64 (by decide) ?_
        refine xgo (xrunS (As := [.int 0]) (rest := []) ⟨hx, hb, hml, hown, hts⟩ (mX1_may0 l Y H.size hfl) (va_cwS 1 hts (lw_S q236 q237 q11 q238) rfl rfl rfl (by decide +kernel) ⟨Nat.le_of_ble_eq_true rfl, Nat.le_of_ble_eq_true rfl⟩) ⟨sPreX_bl, fun U hU hW => ⟨rfl, by rw [hU], hYK.moved hW.alike, hex.moved hW (by rw [hU]; exact bk_kept hP0 hS)⟩⟩ rfl rfl hl.1 rfl (lv_room (Nat.le_of_ble_eq_true rfl)) dX1_offer_65 ⟨Nat.le_of_ble_eq_true rfl, Nat.le_of_ble_eq_true rfl⟩) hS (fun q _ h => Or.inr (Nat.le_trans hS.1 h)) (fun q h => Or.inr (Nat.le_trans hS.1 h)) (fun v H locs hv hz hk hS => ?_) (fun x H locs hv hz hk hS => ?_)
        · obtain ⟨a, ha, -⟩ := hv
          cases ha
        · obtain ⟨a, ha, hth⟩ := hv
          cases ha
          have hP := sA_keep hP hk
          exact wt_out hno hlk hS (by rw [of_full (L := ((n, e0), fB, fP, fX, fS, fL)) hB c_24 hfu]; exact ⟨Or.inr (Or.inr ⟨rfl, _, rfl, hth⟩), _, hok, hP⟩)
      · refine lv_aload_n hx hb dX1_offer_43 rfl (lv_at hl 1 rfl) ?_
        refine va_get (D := Y.1) (ci := 0) (v := .ref (h 1)) (C := RX1) (T := TX1) (N := 2) hx hb hts in_X1 hown hK hP 0 rfl rfl 0 (by decide) (hts _ q101) (fun _ h9 => h9) rfl dX1_offer_44 ?_
        refine va_get (D := Y.1) (ci := 1) (v := .int e0) (C := RX2) (T := TX2) (N := 8) hx hb hts in_X2 hown hK hP 1 rfl rfl 7 (by decide) (hts _ q53) (fun _ h9 => h9) rfl dX1_offer_47 ?_
        refine lv_iload hx hb dX1_offer_50 (lv_at hl 5 rfl) ?_
        refine lv_iadd hx hb dX1_offer_52 ?_
        refine lv_iconst (v := 1) hx hb dX1_offer_53 (by decide) ?_
        refine lv_iadd hx hb dX1_offer_54 ?_
        refine lv_ldc hx hb hown (hts _ q235) dX1_offer_55 ?_
        refine lv_icmp_gt (tgt := 64) hx hb dX1_offer_57 (by decide) (fun c_57 => ?_) (fun c_57 => ?_)
        · have hfu : full ((n, e0), fB, fP, fX, fS, fL) l1 := Or.inr c_57
          refine lv_iconst (v := 0) hx hb dX1_offer_64 (by decide) ?_
          refine xgo (xrunS (As := [.int 0]) (rest := []) ⟨hx, hb, hml, hown, hts⟩ (mX1_may0 l Y H.size hfl) (va_cwS 1 hts (lw_S q236 q237 q11 q238) rfl rfl rfl (by decide +kernel) ⟨Nat.le_of_ble_eq_true rfl, Nat.le_of_ble_eq_true rfl⟩) ⟨sPreX_bl, fun U hU hW => ⟨rfl, by rw [hU], hYK.moved hW.alike, hex.moved hW (by rw [hU]; exact bk_kept hP0 hS)⟩⟩ rfl rfl hl.1 rfl (lv_room (Nat.le_of_ble_eq_true rfl)) dX1_offer_65 ⟨Nat.le_of_ble_eq_true rfl, Nat.le_of_ble_eq_true rfl⟩) hS (fun q _ h => Or.inr (Nat.le_trans hS.1 h)) (fun q h => Or.inr (Nat.le_trans hS.1 h)) (fun v H locs hv hz hk hS => ?_) (fun x H locs hv hz hk hS => ?_)
          · obtain ⟨a, ha, -⟩ := hv
            cases ha
          · obtain ⟨a, ha, hth⟩ := hv
            cases ha
            have hP := sA_keep hP hk
            exact wt_out hno hlk hS (by rw [of_full (L := ((n, e0), fB, fP, fX, fS, fL)) hB c_24 hfu]; exact ⟨Or.inr (Or.inr ⟨rfl, _, rfl, hth⟩), _, hok, hP⟩)
        · have hn : n < 2000 := Nat.not_le.mp (fun z => c_40 ((nI_leI (a := 2000) (b := n) (by decide) (by have : n ≤ 2000 := hlg.1; omega)).mpr z))
          have hfu : ¬ full ((n, e0), fB, fP, fX, fS, fL) l1 := fun z => z.elim (fun y => absurd hn (Nat.not_lt.mpr y)) (fun y => c_57 y)
          refine lv_iconst (v := 1) hx hb dX1_offer_60 (by decide) ?_
          refine lv_goto (tgt := 65) hx hb dX1_offer_61 (by decide) ?_
          refine xgoV (xrunS (As := [.int 1]) (rest := []) ⟨hx, hb, hml, hown, hts⟩ (mX1_may1 l H.size) (va_cwS 1 hts (lw_S q236 q237 q11 q238) rfl rfl rfl (by decide +kernel) ⟨Nat.le_of_ble_eq_true rfl, Nat.le_of_ble_eq_true rfl⟩) ⟨sPre_bl, fun U hU hW => ⟨rfl, congrArg Array.size hU⟩⟩ rfl rfl hl.1 rfl (lv_room (Nat.le_of_ble_eq_true rfl)) dX1_offer_65 ⟨Nat.le_of_ble_eq_true rfl, Nat.le_of_ble_eq_true rfl⟩) hS (fun q _ h => Or.inr (Nat.le_trans hS.1 h)) (fun q h => Or.inr (Nat.le_trans hS.1 h)) (fun H locs _ hz hk hS => ?_)
          have hP := sA_keep hP hk
          refine lv_aload_n hx hb dX1_offer_68 rfl (lv_at hl 1 rfl) ?_
          refine lv_lload_n hx hb dX1_offer_69 rfl (lv_at hl 2 rfl) ?_
          refine lv_iload_n hx hb dX1_offer_70 rfl (lv_at hl 3 rfl) ?_
          refine lv_iload hx hb dX1_offer_71 (lv_at hl 4 rfl) ?_
          refine lv_iload hx hb dX1_offer_73 (lv_at hl 5 rfl) ?_
          refine xgoI (xrunV (As := [.long p1, .int e1, .int s1, .int l1]) (rest := []) ⟨hx, hb, hml, hown, hts⟩ (mX1_send l Y h hh H.size _ _ p1 e1 s1 l1 hn hq.1 hq.2.1 hok) (cwV 4 hts (lw_V q254 q256 qs3 q11 q257) rfl rfl rfl (by decide +kernel) ⟨Nat.le_of_ble_eq_true rfl, Nat.le_of_ble_eq_true rfl⟩) ⟨bPre_bl, va_recv hK hP (ci := 0) (q0 := 0) rfl rfl, fun U hU hW => ⟨rfl, by rw [hU], by rw [hU]; exact hP, hYK.moved hW.alike⟩⟩ rfl rfl hl.1 rfl (lv_room (Nat.le_of_ble_eq_true rfl)) dX1_offer_75 ⟨Nat.le_of_ble_eq_true rfl, Nat.le_of_ble_eq_true rfl⟩) hS (fun q _ h => aA.le hS.1 h) (fun q h => aA.le hS.1 h) (fun H locs hP hz hk hS => ?_)
          obtain ⟨P2, hok2, hP⟩ := hP
          refine W.widen (k := 2) (n := 12) (by decide) (by decide) ?_
          exact xiret hx hb hr hlk hS dX1_offer_78 ((by rw [of_push (L := ((n, e0), fB, fP, fX, fS, fL)) hB c_24 hfu]; exact ⟨Or.inl ⟨rfl, rfl⟩, P2, hok2, hP⟩))
    · refine lv_iload hx hb dX1_offer_27 (lv_at hl 0 rfl) ?_
      refine W.widen (k := 2) (n := 12) (by decide) (by decide) ?_
      exact xiret hx hb hr hlk hS dX1_offer_29 ((by rw [of_told (L := ((n, e0), fB, fP, fX, fS, fL)) hB c_24]; exact ⟨Or.inl ⟨rfl, rfl⟩, _, hok, hP⟩))
  · refine xgo (xrunS (As := [.long p1, .int e1, .int s1, .int l1]) (rest := []) ⟨hx, hb, hml, hown, hts⟩ (mX1_isBatch_no l Y s.heap.size hfl hB) (va_cwS 4 hts (lw_S q142 q143 q11 q144) rfl rfl rfl (by decide +kernel) ⟨Nat.le_of_ble_eq_true rfl, Nat.le_of_ble_eq_true rfl⟩) ⟨sPreX_bl, fun U hU hW => ⟨rfl, by rw [hU], hYK.moved hW.alike, hex.moved hW (by rw [hU]; exact bk_kept hP0 hS)⟩⟩ rfl rfl hl.1 rfl (lv_room (Nat.le_of_ble_eq_true rfl)) dX1_offer_6 ⟨Nat.le_of_ble_eq_true rfl, Nat.le_of_ble_eq_true rfl⟩) hS (fun q _ h => Or.inr (Nat.le_trans hS.1 h)) (fun q h => Or.inr (Nat.le_trans hS.1 h)) (fun v H locs hv hz hk hS => ?_) (fun x H locs hv hz hk hS => ?_)
    · obtain ⟨a, ha, -⟩ := hv
      cases ha
    · obtain ⟨a, ha, hth⟩ := hv
      cases ha
      have hP := sA_keep hP hk
      refine WT.widen (k := 2) (n := 12) (by decide) (by decide) ?_
      exact wt_out hno hlk hS (by rw [of_bad (L := ((n, e0), fB, fP, fX, fS, fL)) hB]; exact ⟨Or.inr (Or.inl ⟨rfl, _, rfl, hth⟩), _, hok, hP⟩)
end
section
/-! ProducerBook: offers (written by prog/book2.py) -/
set_option maxRecDepth 100000
set_option maxHeartbeats 4000000 in
theorem mX1_offers (l : Launch) (Y : YT) (h : Nat → Nat) (hh : aD 13 h) (sz : Nat) (L : Lg) (P : Pg) (hfl : l.flags = flags0) (n1 : Int32) (p1 : Int64) (e1 s1 l1 : Int32) (hlg : LogOK L) (hok : PgOK (gP L) (gN L) P) : XMet l yX1_offers (ws_ yX1_offers cX1_offers 11 (some .int)) ({ frames := 8, cells := 2, slots := 12, locals := 125 }) (bPreX Y h L P sz [.ref (h 0), .int n1, .long p1, .int e1, .int s1, .int l1]) (xQ (fun o H => xpost Y (osR L n1 p1 e1 s1 l1).1 (.int (osR L n1 p1 e1 s1 l1).2.1) o H ∧ ∃ P2, PgOK (gP (osR L n1 p1 e1 s1 l1).2.2) (gN (osR L n1 p1 e1 s1 l1).2.2) P2 ∧ bH Y h (osR L n1 p1 e1 s1 l1).2.2 P2 H) (aA 13 h sz)) 2 12 (aA 13 h sz) := by
  refine XMet.ofW (cc := cX1_offers) (maxL := 11) (ret := (some .int)) (by decide) rfl ?_
  intro p e s m args below meth c s₁ B hml hno hv
  obtain ⟨rfl, hsz, hP, hYK, hex⟩ := hv
  obtain ⟨⟨n, e0⟩, fB, fP, fX, fS, fL⟩ := L
  obtain ⟨pn, fK, fT, fO, fA, fW⟩ := P
  have hx := B.exec
  have hb := B.bytes
  have hr := B.returns
  have hlk := B.notSynchronized
  have hts := atoms_spec (ws := ws_ yX1_offers cX1_offers 11 (some .int)) B.pre
  have hts : ∀ w ∈ lw_all, w.before _ s = true := fun w h => hts w (List.mem_cons_of_mem _ h)
  have hown : s.vm.findClass RX1 = some m.cls := findClass_of_methodNamed B.named
  subst hsz
  have hK := hYK.1
  have hP0 := hP
  have hS : va_S (aA 13 h s.heap.size) s.heap s.heap [] := va_S.rf
  have hl := lv_entry [.ref (h 0), .int n1, .long p1, .int e1, .int s1, .int l1] (n := 11) (Nat.le_of_ble_eq_true rfl)
  rw [lg_entry_eq]
  generalize (lg_sl [.ref (h 0), .int n1, .long p1, .int e1, .int s1, .int l1] ++ List.replicate (11 - (lg_sl [.ref (h 0), .int n1, .long p1, .int e1, .int s1, .int l1]).length) Slot.unset).toArray = ls at hl ⊢
  have hl : lv_has ls 11 [(0, .ref (h 0)), (1, .int n1), (2, .long p1), (4, .int e1), (5, .int s1), (6, .int l1)] := hl
  refine lv_lload_n hx hb dX1_offers_0 rfl (lv_at hl 2 rfl) ?_
  refine lv_iload hx hb dX1_offers_1 (lv_at hl 3 rfl) ?_
  refine lv_iload hx hb dX1_offers_3 (lv_at hl 4 rfl) ?_
  refine lv_iload hx hb dX1_offers_5 (lv_at hl 5 rfl) ?_
  by_cases hB : okB p1 e1 s1 l1
  · refine xgoV (xrunS (As := [.long p1, .int e1, .int s1, .int l1]) (rest := []) ⟨hx, hb, hml, hown, hts⟩ (mX1_isBatch_ok l Y s.heap.size hfl hB) (va_cwS 4 hts (lw_S q142 q143 q11 q144) rfl rfl rfl (by decide +kernel) ⟨Nat.le_of_ble_eq_true rfl, Nat.le_of_ble_eq_true rfl⟩) ⟨sPreX_bl, fun U hU hW => ⟨rfl, by rw [hU], hYK.moved hW.alike, hex.moved hW (by rw [hU]; exact bk_kept hP0 hS)⟩⟩ rfl rfl hl.1 rfl (lv_room (Nat.le_of_ble_eq_true rfl)) dX1_offers_7 ⟨Nat.le_of_ble_eq_true rfl, Nat.le_of_ble_eq_true rfl⟩) hS (fun q _ h => Or.inr (Nat.le_trans hS.1 h)) (fun q h => Or.inr (Nat.le_trans hS.1 h)) (fun H locs _ hz hk hS => ?_)
    have hP := sA_keep hP hk
    refine lv_iload_n hx hb dX1_offers_10 rfl (lv_at hl 1 rfl) ?_
    refine lv_iconst (v := 1) hx hb dX1_offers_11 (by decide) ?_
    refine lv_icmp_lt (tgt := 26) hx hb dX1_offers_12 (by decide) (fun c_12 => ?_) (fun c_12 => ?_)
    · refine lv_iconst (v := 0) hx hb dX1_offers_26 (by decide) ?_
      refine xgo (xrunS (As := [.int 0]) (rest := []) ⟨hx, hb, hml, hown, hts⟩ (mX1_need0 l Y H.size hfl) (va_cwS 1 hts (lw_S q146 q147 q11 q148) rfl rfl rfl (by decide +kernel) ⟨Nat.le_of_ble_eq_true rfl, Nat.le_of_ble_eq_true rfl⟩) ⟨sPreX_bl, fun U hU hW => ⟨rfl, by rw [hU], hYK.moved hW.alike, hex.moved hW (by rw [hU]; exact bk_kept hP0 hS)⟩⟩ rfl rfl hl.1 rfl (lv_room (Nat.le_of_ble_eq_true rfl)) dX1_offers_27 ⟨Nat.le_of_ble_eq_true rfl, Nat.le_of_ble_eq_true rfl⟩) hS (fun q _ h => Or.inr (Nat.le_trans hS.1 h)) (fun q h => Or.inr (Nat.le_trans hS.1 h)) (fun v H locs hv hz hk hS => ?_) (fun x H locs hv hz hk hS => ?_)
      · obtain ⟨a, ha, -⟩ := hv
        cases ha
      · obtain ⟨a, ha, hth⟩ := hv
        cases ha
        have hP := sA_keep hP hk
        exact wt_out hno hlk hS (by rw [os_bad (L := ((n, e0), fB, fP, fX, fS, fL)) (Or.inr (Or.inl c_12))]; exact ⟨Or.inr (Or.inl ⟨rfl, _, rfl, hth⟩), _, hok, hP⟩)
    · refine lv_iload_n hx hb dX1_offers_15 rfl (lv_at hl 1 rfl) ?_
      refine lv_sipush (v := 500) hx hb dX1_offers_16 (by decide) ?_
      refine lv_icmp_gt (tgt := 26) hx hb dX1_offers_19 (by decide) (fun c_19 => ?_) (fun c_19 => ?_)
      · refine lv_iconst (v := 0) hx hb dX1_offers_26 (by decide) ?_
        refine xgo (xrunS (As := [.int 0]) (rest := []) ⟨hx, hb, hml, hown, hts⟩ (mX1_need0 l Y H.size hfl) (va_cwS 1 hts (lw_S q146 q147 q11 q148) rfl rfl rfl (by decide +kernel) ⟨Nat.le_of_ble_eq_true rfl, Nat.le_of_ble_eq_true rfl⟩) ⟨sPreX_bl, fun U hU hW => ⟨rfl, by rw [hU], hYK.moved hW.alike, hex.moved hW (by rw [hU]; exact bk_kept hP0 hS)⟩⟩ rfl rfl hl.1 rfl (lv_room (Nat.le_of_ble_eq_true rfl)) dX1_offers_27 ⟨Nat.le_of_ble_eq_true rfl, Nat.le_of_ble_eq_true rfl⟩) hS (fun q _ h => Or.inr (Nat.le_trans hS.1 h)) (fun q h => Or.inr (Nat.le_trans hS.1 h)) (fun v H locs hv hz hk hS => ?_) (fun x H locs hv hz hk hS => ?_)
        · obtain ⟨a, ha, -⟩ := hv
          cases ha
        · obtain ⟨a, ha, hth⟩ := hv
          cases ha
          have hP := sA_keep hP hk
          exact wt_out hno hlk hS (by rw [os_bad (L := ((n, e0), fB, fP, fX, fS, fL)) (Or.inr (Or.inr c_19))]; exact ⟨Or.inr (Or.inl ⟨rfl, _, rfl, hth⟩), _, hok, hP⟩)
      · refine lv_iconst (v := 1) hx hb dX1_offers_22 (by decide) ?_
        refine lv_goto (tgt := 27) hx hb dX1_offers_23 (by decide) ?_
        refine xgoV (xrunS (As := [.int 1]) (rest := []) ⟨hx, hb, hml, hown, hts⟩ (mX1_need1 l H.size) (va_cwS 1 hts (lw_S q146 q147 q11 q148) rfl rfl rfl (by decide +kernel) ⟨Nat.le_of_ble_eq_true rfl, Nat.le_of_ble_eq_true rfl⟩) ⟨sPre_bl, fun U hU hW => ⟨rfl, congrArg Array.size hU⟩⟩ rfl rfl hl.1 rfl (lv_room (Nat.le_of_ble_eq_true rfl)) dX1_offers_27 ⟨Nat.le_of_ble_eq_true rfl, Nat.le_of_ble_eq_true rfl⟩) hS (fun q _ h => Or.inr (Nat.le_trans hS.1 h)) (fun q h => Or.inr (Nat.le_trans hS.1 h)) (fun H locs _ hz hk hS => ?_)
        have hP := sA_keep hP hk
        refine lv_aload_n hx hb dX1_offers_30 rfl (lv_at hl 0 rfl) ?_
        refine va_get (D := Y.1) (ci := 0) (v := .ref (h 1)) (C := RX1) (T := TX1) (N := 2) hx hb hts in_X1 hown hK hP 0 rfl rfl 0 (by decide) (hts _ q101) (fun _ h9 => h9) rfl dX1_offers_31 ?_
        refine va_get (D := Y.1) (ci := 1) (v := .int (nI n)) (C := RX2) (T := TX2) (N := 8) hx hb hts in_X2 hown hK hP 1 rfl rfl 6 (by decide) (hts _ q50) (fun _ h9 => h9) rfl dX1_offers_34 ?_
        refine lv_iload_n hx hb dX1_offers_37 rfl (lv_at hl 1 rfl) ?_
        refine lv_iadd hx hb dX1_offers_38 ?_
        refine lv_sipush (v := 2000) hx hb dX1_offers_39 (by decide) ?_
        refine lv_icmp_gt (tgt := 68) hx hb dX1_offers_42 (by decide) (fun c_42 => ?_) (fun c_42 => ?_)
        · refine lv_iconst (v := 0) hx hb dX1_offers_68 (by decide) ?_
          refine xgo (xrunS (As := [.int 0]) (rest := []) ⟨hx, hb, hml, hown, hts⟩ (mX1_may0 l Y H.size hfl) (va_cwS 1 hts (lw_S q236 q237 q11 q238) rfl rfl rfl (by decide +kernel) ⟨Nat.le_of_ble_eq_true rfl, Nat.le_of_ble_eq_true rfl⟩) ⟨sPreX_bl, fun U hU hW => ⟨rfl, by rw [hU], hYK.moved hW.alike, hex.moved hW (by rw [hU]; exact bk_kept hP0 hS)⟩⟩ rfl rfl hl.1 rfl (lv_room (Nat.le_of_ble_eq_true rfl)) dX1_offers_69 ⟨Nat.le_of_ble_eq_true rfl, Nat.le_of_ble_eq_true rfl⟩) hS (fun q _ h => Or.inr (Nat.le_trans hS.1 h)) (fun q h => Or.inr (Nat.le_trans hS.1 h)) (fun v H locs hv hz hk hS => ?_) (fun x H locs hv hz hk hS => ?_)
          · obtain ⟨a, ha, -⟩ := hv
            cases ha
          · obtain ⟨a, ha, hth⟩ := hv
            cases ha
            have hP := sA_keep hP hk
            exact wt_out hno hlk hS (by rw [os_full (L := ((n, e0), fB, fP, fX, fS, fL)) hB c_12 c_19 (Or.inl c_42)]; exact ⟨Or.inr (Or.inr ⟨rfl, _, rfl, hth⟩), _, hok, hP⟩)
        · refine lv_aload_n hx hb dX1_offers_45 rfl (lv_at hl 0 rfl) ?_
          refine va_get (D := Y.1) (ci := 0) (v := .ref (h 1)) (C := RX1) (T := TX1) (N := 2) hx hb hts in_X1 hown hK hP 0 rfl rfl 0 (by decide) (hts _ q101) (fun _ h9 => h9) rfl dX1_offers_46 ?_
          refine va_get (D := Y.1) (ci := 1) (v := .int e0) (C := RX2) (T := TX2) (N := 8) hx hb hts in_X2 hown hK hP 1 rfl rfl 7 (by decide) (hts _ q53) (fun _ h9 => h9) rfl dX1_offers_49 ?_
          refine lv_iload_n hx hb dX1_offers_52 rfl (lv_at hl 1 rfl) ?_
          refine lv_iload hx hb dX1_offers_53 (lv_at hl 5 rfl) ?_
          refine lv_iconst (v := 1) hx hb dX1_offers_55 (by decide) ?_
          refine lv_iadd hx hb dX1_offers_56 ?_
          refine lv_imul hx hb dX1_offers_57 ?_
          refine lv_iadd hx hb dX1_offers_58 ?_
          refine lv_ldc hx hb hown (hts _ q235) dX1_offers_59 ?_
          refine lv_icmp_gt (tgt := 68) hx hb dX1_offers_61 (by decide) (fun c_61 => ?_) (fun c_61 => ?_)
          · refine lv_iconst (v := 0) hx hb dX1_offers_68 (by decide) ?_
            refine xgo (xrunS (As := [.int 0]) (rest := []) ⟨hx, hb, hml, hown, hts⟩ (mX1_may0 l Y H.size hfl) (va_cwS 1 hts (lw_S q236 q237 q11 q238) rfl rfl rfl (by decide +kernel) ⟨Nat.le_of_ble_eq_true rfl, Nat.le_of_ble_eq_true rfl⟩) ⟨sPreX_bl, fun U hU hW => ⟨rfl, by rw [hU], hYK.moved hW.alike, hex.moved hW (by rw [hU]; exact bk_kept hP0 hS)⟩⟩ rfl rfl hl.1 rfl (lv_room (Nat.le_of_ble_eq_true rfl)) dX1_offers_69 ⟨Nat.le_of_ble_eq_true rfl, Nat.le_of_ble_eq_true rfl⟩) hS (fun q _ h => Or.inr (Nat.le_trans hS.1 h)) (fun q h => Or.inr (Nat.le_trans hS.1 h)) (fun v H locs hv hz hk hS => ?_) (fun x H locs hv hz hk hS => ?_)
            · obtain ⟨a, ha, -⟩ := hv
              cases ha
            · obtain ⟨a, ha, hth⟩ := hv
              cases ha
              have hP := sA_keep hP hk
              exact wt_out hno hlk hS (by rw [os_full (L := ((n, e0), fB, fP, fX, fS, fL)) hB c_12 c_19 (Or.inr c_61)]; exact ⟨Or.inr (Or.inr ⟨rfl, _, rfl, hth⟩), _, hok, hP⟩)
          · have hfu : ¬ osFull ((n, e0), fB, fP, fX, fS, fL) n1 l1 := fun z => z.elim (fun y => c_42 y) (fun y => c_61 y)
            obtain ⟨N, hN, hN2, rfl⟩ := n_nat c_12 c_19
            refine lv_iconst (v := 1) hx hb dX1_offers_64 (by decide) ?_
            refine lv_goto (tgt := 69) hx hb dX1_offers_65 (by decide) ?_
            refine xgoV (xrunS (As := [.int 1]) (rest := []) ⟨hx, hb, hml, hown, hts⟩ (mX1_may1 l H.size) (va_cwS 1 hts (lw_S q236 q237 q11 q238) rfl rfl rfl (by decide +kernel) ⟨Nat.le_of_ble_eq_true rfl, Nat.le_of_ble_eq_true rfl⟩) ⟨sPre_bl, fun U hU hW => ⟨rfl, congrArg Array.size hU⟩⟩ rfl rfl hl.1 rfl (lv_room (Nat.le_of_ble_eq_true rfl)) dX1_offers_69 ⟨Nat.le_of_ble_eq_true rfl, Nat.le_of_ble_eq_true rfl⟩) hS (fun q _ h => Or.inr (Nat.le_trans hS.1 h)) (fun q h => Or.inr (Nat.le_trans hS.1 h)) (fun H locs _ hz hk hS => ?_)
            have hP := sA_keep hP hk
            refine lv_iconst (v := 0) hx hb dX1_offers_72 (by decide) ?_
            refine xi_eq (nI 0) (nI_0.symm) ?_
            refine lv_istore (lv' := [(7, .int (nI 0)), (0, .ref (h 0)), (1, .int (nI N)), (2, .long p1), (4, .int e1), (5, .int s1), (6, .int l1)]) hx hb dX1_offers_73 hl (by decide) rfl (fun ls hl => ?_)
            refine lv_iload hx hb dX1_offers_75 (lv_at hl 5 rfl) ?_
            refine lv_istore (lv' := [(8, .int s1), (7, .int (nI 0)), (0, .ref (h 0)), (1, .int (nI N)), (2, .long p1), (4, .int e1), (5, .int s1), (6, .int l1)]) hx hb dX1_offers_77 hl (by decide) rfl (fun ls hl => ?_)
            refine lv_iconst (v := 0) hx hb dX1_offers_79 (by decide) ?_
            refine xi_eq (nI 0) (nI_0.symm) ?_
            refine lv_istore (lv' := [(9, .int (nI 0)), (8, .int s1), (7, .int (nI 0)), (0, .ref (h 0)), (1, .int (nI N)), (2, .long p1), (4, .int e1), (5, .int s1), (6, .int l1)]) hx hb dX1_offers_80 hl (by decide) rfl (fun ls hl => ?_)
            have loop : ∀ (k j : Nat) (L2 : Lg) (x2 : Int32) (c2 : Nat) (P2 : Pg), j + k = N → osL ((n, e0), fB, fP, fX, fS, fL) p1 e1 s1 l1 j = (L2, x2, c2) → PgOK (gP L2) (gN L2) P2 → ∀ (H : Heap) (locs : List Loc), bH Y h L2 P2 H → va_S (aA 13 h s.heap.size) s.heap H locs → ∀ (ls : Array Slot), lv_has ls 11 [(9, .int (nI j)), (8, .int x2), (7, .int (nI c2)), (0, .ref (h 0)), (1, .int (nI N)), (2, .long p1), (4, .int e1), (5, .int s1), (6, .int l1)] → W p l e (headSpec (ws_ yX1_offers cX1_offers 11 (some .int)) ({ frames := 8, cells := 2, slots := 12, locals := 125 })).room s m ([.ref (h 0), .int (nI N), .long p1, .int e1, .int s1, .int l1] : List Value).toArray below meth c H locs (0 + 1 + 0 + 0) (0 + 6 + 0 + 0) (XMQ below (xQ (fun o H => xpost Y (osR ((n, e0), fB, fP, fX, fS, fL) (nI N) p1 e1 s1 l1).1 (.int (osR ((n, e0), fB, fP, fX, fS, fL) (nI N) p1 e1 s1 l1).2.1) o H ∧ ∃ P2, PgOK (gP (osR ((n, e0), fB, fP, fX, fS, fL) (nI N) p1 e1 s1 l1).2.2) (gN (osR ((n, e0), fB, fP, fX, fS, fL) (nI N) p1 e1 s1 l1).2.2) P2 ∧ bH Y h (osR ((n, e0), fB, fP, fX, fS, fL) (nI N) p1 e1 s1 l1).2.2 P2 H) (aA 13 h s.heap.size)) ([.ref (h 0), .int (nI N), .long p1, .int e1, .int s1, .int l1] : List Value).toArray s 2 12 (aA 13 h s.heap.size)) (F0 m 82 ls []) := by
              intro k
              induction k with
              | zero =>
                intro j L2 x2 c2 P2 hj hos hok2 H locs hP hS ls hl
                obtain ⟨⟨n2, e2⟩, gB2, gP2, gX2, gS2, gL2⟩ := L2
                obtain ⟨pn2, gK2, gT2, gO2, gA2, gW2⟩ := P2
                refine lv_iload hx hb dX1_offers_82 (lv_at hl 0 rfl) ?_
                refine lv_iload_n hx hb dX1_offers_84 rfl (lv_at hl 4 rfl) ?_
                refine lv_icmp_ge (tgt := 149) hx hb dX1_offers_85 (by decide) (fun c_85 => ?_) (fun c_85 => ?_)
                · refine lv_iload hx hb dX1_offers_149 (lv_at hl 2 rfl) ?_
                  refine W.widen (k := 2) (n := 12) (by decide) (by decide) ?_
                  exact xiret hx hb hr hlk hS dX1_offers_151 ((by rw [os_run (L := ((n, e0), fB, fP, fX, fS, fL)) hB hN hN2 hfu, show N = j by omega, hos]; exact ⟨Or.inl ⟨rfl, rfl⟩, _, hok2, hP⟩))
                · exact absurd ((nI_le (by omega) (by omega) : nI N ≤ nI j)) c_85
              | succ k ih =>
                intro j L2 x2 c2 P2 hj hos hok2 H locs hP hS ls hl
                have hinv := os_inv (L := ((n, e0), fB, fP, fX, fS, fL)) hN2 hlg hB hfu j (by omega)
                rw [hos] at hinv
                obtain ⟨i1, i2, i3, i4, i5, i6⟩ := hinv
                have i6 := i6 (by omega)
                dsimp only at i1 i2 i6
                obtain ⟨⟨n2, e2⟩, gB2, gP2, gX2, gS2, gL2⟩ := L2
                obtain ⟨pn2, gK2, gT2, gO2, gA2, gW2⟩ := P2
                have i6 : n2 < 2000 := i6
                have hq2 := okB_nar i2
                refine lv_iload hx hb dX1_offers_82 (lv_at hl 0 rfl) ?_
                refine lv_iload_n hx hb dX1_offers_84 rfl (lv_at hl 4 rfl) ?_
                refine lv_icmp_ge (tgt := 149) hx hb dX1_offers_85 (by decide) (fun c_85 => ?_) (fun c_85 => ?_)
                · exact absurd c_85 ((fun z => absurd ((nI_leI (a := N) (b := j) (by omega) (by omega)).mp z) (by omega)))
                · refine lv_aload_n hx hb dX1_offers_88 rfl (lv_at hl 3 rfl) ?_
                  refine lv_lload_n hx hb dX1_offers_89 rfl (lv_at hl 5 rfl) ?_
                  refine lv_iload hx hb dX1_offers_90 (lv_at hl 6 rfl) ?_
                  refine lv_iload hx hb dX1_offers_92 (lv_at hl 1 rfl) ?_
                  refine lv_iload hx hb dX1_offers_94 (lv_at hl 8 rfl) ?_
                  refine xgoI (xrunV (As := [.long p1, .int e1, .int x2, .int l1]) (rest := []) ⟨hx, hb, hml, hown, hts⟩ (mX1_answer l Y h hh H.size _ _ p1 e1 x2 l1 i2.1.2.2 i1 hok2) (cwV 4 hts (lw_V q211 q213 qs2 q11 q214) rfl rfl rfl (by decide +kernel) ⟨Nat.le_of_ble_eq_true rfl, Nat.le_of_ble_eq_true rfl⟩) ⟨bPre_bl, va_recv hK hP (ci := 0) (q0 := 0) rfl rfl, fun U hU hW => ⟨rfl, by rw [hU], by rw [hU]; exact hP, hYK.moved hW.alike⟩⟩ rfl rfl hl.1 rfl (lv_room (Nat.le_of_ble_eq_true rfl)) dX1_offers_96 ⟨Nat.le_of_ble_eq_true rfl, Nat.le_of_ble_eq_true rfl⟩) hS (fun q _ h => aA.le hS.1 h) (fun q h => aA.le hS.1 h) (fun H locs hP hz hk hS => ?_)
                  refine lv_iconst (v := (-1)) hx hb dX1_offers_99 (by decide) ?_
                  refine lv_icmp_ne (tgt := 119) hx hb dX1_offers_100 (by decide) (fun c_100 => ?_) (fun c_100 => ?_)
                  · refine lv_lload_n hx hb dX1_offers_119 rfl (lv_at hl 5 rfl) ?_
                    refine lv_ldc2 hx hb hown (hts _ q145) dX1_offers_120 ?_
                    refine W.lcmp hx hb dX1_offers_123 ?_
                    refine lv_if_ne (tgt := 131) hx hb dX1_offers_124 (by decide) (fun c_124 => ?_) (fun c_124 => ?_)
                    · rw [lg_cmp_eq] at c_124
                      refine lv_iload hx hb dX1_offers_131 (lv_at hl 1 rfl) ?_
                      refine lv_iload hx hb dX1_offers_133 (lv_at hl 8 rfl) ?_
                      refine lv_iadd hx hb dX1_offers_135 ?_
                      refine lv_iconst (v := 1) hx hb dX1_offers_136 (by decide) ?_
                      refine lv_iadd hx hb dX1_offers_137 ?_
                      refine lv_ldc hx hb hown (hts _ q270) dX1_offers_138 ?_
                      refine lv_iand hx hb dX1_offers_140 ?_
                      refine xi_eq (aft x2 l1) (rfl) ?_
                      refine lv_istore (lv' := [(8, .int (aft x2 l1)), (9, .int (nI j)), (7, .int (nI c2)), (0, .ref (h 0)), (1, .int (nI N)), (2, .long p1), (4, .int e1), (5, .int s1), (6, .int l1)]) hx hb dX1_offers_141 hl (by decide) rfl (fun ls hl => ?_)
                      refine lv_iinc (v := nI (j + 1)) (lv' := [(9, .int (nI (j + 1))), (8, .int (aft x2 l1)), (7, .int (nI c2)), (0, .ref (h 0)), (1, .int (nI N)), (2, .long p1), (4, .int e1), (5, .int s1), (6, .int l1)]) hx hb dX1_offers_143 hl (k := 1) rfl (inc1 _) (by decide) rfl (fun ls hl => ?_)
                      refine lv_goto (tgt := 82) hx hb dX1_offers_146 (by decide) ?_
                      exact ih (j + 1) _ _ _ _ (by omega) (by rw [os_miss (L := ((n, e0), fB, fP, fX, fS, fL)) (by rw [hos]; exact c_100), hos]; unfold nxt; rw [if_neg c_124]) hok2 _ _ hP hS ls (lv_sub hl [0, 1, 2, 3, 4, 5, 6, 7, 8] rfl)
                    · rw [lg_cmp_eq] at c_124
                      refine lv_iconst (v := (-1)) hx hb dX1_offers_127 (by decide) ?_
                      refine lv_goto (tgt := 141) hx hb dX1_offers_128 (by decide) ?_
                      refine lv_istore (lv' := [(8, .int (-1)), (9, .int (nI j)), (7, .int (nI c2)), (0, .ref (h 0)), (1, .int (nI N)), (2, .long p1), (4, .int e1), (5, .int s1), (6, .int l1)]) hx hb dX1_offers_141 hl (by decide) rfl (fun ls hl => ?_)
                      refine lv_iinc (v := nI (j + 1)) (lv' := [(9, .int (nI (j + 1))), (8, .int (-1)), (7, .int (nI c2)), (0, .ref (h 0)), (1, .int (nI N)), (2, .long p1), (4, .int e1), (5, .int s1), (6, .int l1)]) hx hb dX1_offers_143 hl (k := 1) rfl (inc1 _) (by decide) rfl (fun ls hl => ?_)
                      refine lv_goto (tgt := 82) hx hb dX1_offers_146 (by decide) ?_
                      exact ih (j + 1) _ _ _ _ (by omega) (by rw [os_miss (L := ((n, e0), fB, fP, fX, fS, fL)) (by rw [hos]; exact c_100), hos]; unfold nxt; rw [if_pos c_124]) hok2 _ _ hP hS ls (lv_sub hl [0, 1, 2, 3, 4, 5, 6, 7, 8] rfl)
                  · refine lv_aload_n hx hb dX1_offers_103 rfl (lv_at hl 3 rfl) ?_
                    refine lv_lload_n hx hb dX1_offers_104 rfl (lv_at hl 5 rfl) ?_
                    refine lv_iload hx hb dX1_offers_105 (lv_at hl 6 rfl) ?_
                    refine lv_iload hx hb dX1_offers_107 (lv_at hl 1 rfl) ?_
                    refine lv_iload hx hb dX1_offers_109 (lv_at hl 8 rfl) ?_
                    refine xgoI (xrunV (As := [.long p1, .int e1, .int x2, .int l1]) (rest := []) ⟨hx, hb, hml, hown, hts⟩ (mX1_send l Y h hh H.size _ _ p1 e1 x2 l1 i6 hq2.1 hq2.2.1 hok2) (cwV 4 hts (lw_V q254 q256 qs3 q11 q257) rfl rfl rfl (by decide +kernel) ⟨Nat.le_of_ble_eq_true rfl, Nat.le_of_ble_eq_true rfl⟩) ⟨bPre_bl, va_recv hK hP (ci := 0) (q0 := 0) rfl rfl, fun U hU hW => ⟨rfl, by rw [hU], by rw [hU]; exact hP, hYK.moved hW.alike⟩⟩ rfl rfl hl.1 rfl (lv_room (Nat.le_of_ble_eq_true rfl)) dX1_offers_111 ⟨Nat.le_of_ble_eq_true rfl, Nat.le_of_ble_eq_true rfl⟩) hS (fun q _ h => aA.le hS.1 h) (fun q h => aA.le hS.1 h) (fun H locs hP hz hk hS => ?_)
                    obtain ⟨P3, hok3, hP⟩ := hP
                    refine lv_istore (lv' := [(10, .int e2), (9, .int (nI j)), (8, .int x2), (7, .int (nI c2)), (0, .ref (h 0)), (1, .int (nI N)), (2, .long p1), (4, .int e1), (5, .int s1), (6, .int l1)]) hx hb dX1_offers_114 hl (by decide) rfl (fun ls hl => ?_)
                    refine lv_iinc (v := nI (c2 + 1)) (lv' := [(7, .int (nI (c2 + 1))), (10, .int e2), (9, .int (nI j)), (8, .int x2), (0, .ref (h 0)), (1, .int (nI N)), (2, .long p1), (4, .int e1), (5, .int s1), (6, .int l1)]) hx hb dX1_offers_116 hl (k := 3) rfl (inc1 _) (by decide) rfl (fun ls hl => ?_)
                    refine lv_lload_n hx hb dX1_offers_119 rfl (lv_at hl 6 rfl) ?_
                    refine lv_ldc2 hx hb hown (hts _ q145) dX1_offers_120 ?_
                    refine W.lcmp hx hb dX1_offers_123 ?_
                    refine lv_if_ne (tgt := 131) hx hb dX1_offers_124 (by decide) (fun c_124 => ?_) (fun c_124 => ?_)
                    · rw [lg_cmp_eq] at c_124
                      refine lv_iload hx hb dX1_offers_131 (lv_at hl 3 rfl) ?_
                      refine lv_iload hx hb dX1_offers_133 (lv_at hl 9 rfl) ?_
                      refine lv_iadd hx hb dX1_offers_135 ?_
                      refine lv_iconst (v := 1) hx hb dX1_offers_136 (by decide) ?_
                      refine lv_iadd hx hb dX1_offers_137 ?_
                      refine lv_ldc hx hb hown (hts _ q270) dX1_offers_138 ?_
                      refine lv_iand hx hb dX1_offers_140 ?_
                      refine xi_eq (aft x2 l1) (rfl) ?_
                      refine lv_istore (lv' := [(8, .int (aft x2 l1)), (7, .int (nI (c2 + 1))), (10, .int e2), (9, .int (nI j)), (0, .ref (h 0)), (1, .int (nI N)), (2, .long p1), (4, .int e1), (5, .int s1), (6, .int l1)]) hx hb dX1_offers_141 hl (by decide) rfl (fun ls hl => ?_)
                      refine lv_iinc (v := nI (j + 1)) (lv' := [(9, .int (nI (j + 1))), (8, .int (aft x2 l1)), (7, .int (nI (c2 + 1))), (10, .int e2), (0, .ref (h 0)), (1, .int (nI N)), (2, .long p1), (4, .int e1), (5, .int s1), (6, .int l1)]) hx hb dX1_offers_143 hl (k := 3) rfl (inc1 _) (by decide) rfl (fun ls hl => ?_)
                      refine lv_goto (tgt := 82) hx hb dX1_offers_146 (by decide) ?_
                      exact ih (j + 1) _ _ _ _ (by omega) (by rw [os_hit (L := ((n, e0), fB, fP, fX, fS, fL)) (by rw [hos]; exact c_100), hos]; unfold nxt; rw [if_neg c_124]) hok3 _ _ hP hS ls (lv_sub hl [0, 1, 2, 4, 5, 6, 7, 8, 9] rfl)
                    · rw [lg_cmp_eq] at c_124
                      refine lv_iconst (v := (-1)) hx hb dX1_offers_127 (by decide) ?_
                      refine lv_goto (tgt := 141) hx hb dX1_offers_128 (by decide) ?_
                      refine lv_istore (lv' := [(8, .int (-1)), (7, .int (nI (c2 + 1))), (10, .int e2), (9, .int (nI j)), (0, .ref (h 0)), (1, .int (nI N)), (2, .long p1), (4, .int e1), (5, .int s1), (6, .int l1)]) hx hb dX1_offers_141 hl (by decide) rfl (fun ls hl => ?_)
                      refine lv_iinc (v := nI (j + 1)) (lv' := [(9, .int (nI (j + 1))), (8, .int (-1)), (7, .int (nI (c2 + 1))), (10, .int e2), (0, .ref (h 0)), (1, .int (nI N)), (2, .long p1), (4, .int e1), (5, .int s1), (6, .int l1)]) hx hb dX1_offers_143 hl (k := 3) rfl (inc1 _) (by decide) rfl (fun ls hl => ?_)
                      refine lv_goto (tgt := 82) hx hb dX1_offers_146 (by decide) ?_
                      exact ih (j + 1) _ _ _ _ (by omega) (by rw [os_hit (L := ((n, e0), fB, fP, fX, fS, fL)) (by rw [hos]; exact c_100), hos]; unfold nxt; rw [if_pos c_124]) hok3 _ _ hP hS ls (lv_sub hl [0, 1, 2, 4, 5, 6, 7, 8, 9] rfl)
            exact loop N 0 _ _ _ _ (by omega) rfl hok _ _ hP hS ls (lv_sub hl [0, 1, 2, 3, 4, 5, 6, 7, 8] rfl)
  · refine xgo (xrunS (As := [.long p1, .int e1, .int s1, .int l1]) (rest := []) ⟨hx, hb, hml, hown, hts⟩ (mX1_isBatch_no l Y s.heap.size hfl hB) (va_cwS 4 hts (lw_S q142 q143 q11 q144) rfl rfl rfl (by decide +kernel) ⟨Nat.le_of_ble_eq_true rfl, Nat.le_of_ble_eq_true rfl⟩) ⟨sPreX_bl, fun U hU hW => ⟨rfl, by rw [hU], hYK.moved hW.alike, hex.moved hW (by rw [hU]; exact bk_kept hP0 hS)⟩⟩ rfl rfl hl.1 rfl (lv_room (Nat.le_of_ble_eq_true rfl)) dX1_offers_7 ⟨Nat.le_of_ble_eq_true rfl, Nat.le_of_ble_eq_true rfl⟩) hS (fun q _ h => Or.inr (Nat.le_trans hS.1 h)) (fun q h => Or.inr (Nat.le_trans hS.1 h)) (fun v H locs hv hz hk hS => ?_) (fun x H locs hv hz hk hS => ?_)
    · obtain ⟨a, ha, -⟩ := hv
      cases ha
    · obtain ⟨a, ha, hth⟩ := hv
      cases ha
      have hP := sA_keep hP hk
      refine WT.widen (k := 2) (n := 12) (by decide) (by decide) ?_
      exact wt_out hno hlk hS (by rw [os_bad (L := ((n, e0), fB, fP, fX, fS, fL)) (Or.inl hB)]; exact ⟨Or.inr (Or.inl ⟨rfl, _, rfl, hth⟩), _, hok, hP⟩)
end
section
/-! laws of what the readers answer -/
set_option maxRecDepth 100000
theorem kn_bad {L : Lg} {p : Int64} {w : Int32} (h : p < 0 ∨ w < 0 ∨ 4 < w) : knR L p w = (1, 0) := by unfold knR; rw [if_pos h]
theorem kn_ok {L : Lg} {p : Int64} {w : Int32} (h1 : ¬ p < 0) (h2 : ¬ w < 0) (h3 : ¬ 4 < w) : knR L p w = (0, if w = 0 then nI (min 5 (cnt (gP L) p (gN L))) else if cnt (gP L) p (gN L) = 0 then -1 else if w = 1 then kth L p 0 (gX L) else if w = 2 then kth L p 0 (fun k => aft (gS L k) (gL L k)) else if w = 3 then kth L p 0 (gB L) else kth L p (min 5 (cnt (gP L) p (gN L)) - 1) (gB L)) := by
  unfold knR
  rw [if_neg (fun z => z.elim h1 (fun y => y.elim h2 h3))]
theorem kth_some {L : Lg} {p : Int64} {i k : Nat} {f : Nat → Int32} (h : occ (gP L) p (gN L) i = some k) : kth L p i f = f k := by unfold kth; rw [h]
theorem kn_0 {L : Lg} {p : Int64} (h1 : ¬ p < 0) : knR L p 0 = (0, nI (min 5 (cnt (gP L) p (gN L)))) := by
  rw [kn_ok h1 (by decide) (by decide), if_pos rfl]
theorem kn_n {L : Lg} {p : Int64} {w : Int32} (h1 : ¬ p < 0) (h2 : ¬ w < 0) (h3 : ¬ 4 < w) (h4 : ¬ w = 0) (h5 : cnt (gP L) p (gN L) = 0) : knR L p w = (0, -1) := by
  rw [kn_ok h1 h2 h3, if_neg h4, if_pos h5]
theorem kn_1 {L : Lg} {p : Int64} {k : Nat} (h1 : ¬ p < 0) (hc : ¬ cnt (gP L) p (gN L) = 0) (h : occ (gP L) p (gN L) 0 = some k) : knR L p 1 = (0, gX L k) := by
  rw [kn_ok h1 (by decide) (by decide), if_neg (by decide), if_neg hc, if_pos rfl, kth_some h]
theorem kn_2 {L : Lg} {p : Int64} {k : Nat} (h1 : ¬ p < 0) (hc : ¬ cnt (gP L) p (gN L) = 0) (h : occ (gP L) p (gN L) 0 = some k) : knR L p 2 = (0, aft (gS L k) (gL L k)) := by
  rw [kn_ok h1 (by decide) (by decide), if_neg (by decide), if_neg hc, if_neg (by decide), if_pos rfl, kth_some h]
theorem kn_3 {L : Lg} {p : Int64} {k : Nat} (h1 : ¬ p < 0) (hc : ¬ cnt (gP L) p (gN L) = 0) (h : occ (gP L) p (gN L) 0 = some k) : knR L p 3 = (0, gB L k) := by
  rw [kn_ok h1 (by decide) (by decide), if_neg (by decide), if_neg hc, if_neg (by decide), if_neg (by decide), if_pos rfl, kth_some h]
theorem kn_4 {L : Lg} {p : Int64} {k : Nat} (h1 : ¬ p < 0) (hc : ¬ cnt (gP L) p (gN L) = 0) (h : occ (gP L) p (gN L) (min 5 (cnt (gP L) p (gN L)) - 1) = some k) : knR L p 4 = (0, gB L k) := by
  rw [kn_ok h1 (by decide) (by decide), if_neg (by decide), if_neg hc, if_neg (by decide), if_neg (by decide), if_neg (by decide), kth_some h]
theorem w4 {w : Int32} (h2 : ¬ w < 0) (h3 : ¬ 4 < w) : w = 0 ∨ w = 1 ∨ w = 2 ∨ w = 3 ∨ w = 4 := by
  obtain ⟨N, hN, e⟩ := nI_of h2
  rw [e] at h3
  have h4 : ¬ 4 < N := fun z => h3 ((nI_ltI (a := 4) (b := N) (by decide) hN).mpr z)
  rcases (show N = 0 ∨ N = 1 ∨ N = 2 ∨ N = 3 ∨ N = 4 by omega) with z | z | z | z | z <;> rw [e, z] <;> decide
theorem w5 {w : Int32} (h2 : ¬ w < 0) (h3 : ¬ 5 < w) : w = 0 ∨ w = 1 ∨ w = 2 ∨ w = 3 ∨ w = 4 ∨ w = 5 := by
  obtain ⟨N, hN, e⟩ := nI_of h2
  rw [e] at h3
  have h4 : ¬ 5 < N := fun z => h3 ((nI_ltI (a := 5) (b := N) (by decide) hN).mpr z)
  rcases (show N = 0 ∨ N = 1 ∨ N = 2 ∨ N = 3 ∨ N = 4 ∨ N = 5 by omega) with z | z | z | z | z | z <;> rw [e, z] <;> decide
theorem w2 {w : Int32} (h2 : ¬ w < 0) (h3 : ¬ 2 < w) (h0 : ¬ w = 0) (h1 : ¬ w = 1) : w = 2 := by
  obtain ⟨N, hN, e⟩ := nI_of h2
  rw [e] at h3
  have h4 : ¬ 2 < N := fun z => h3 ((nI_ltI (a := 2) (b := N) (by decide) hN).mpr z)
  rcases (show N = 0 ∨ N = 1 ∨ N = 2 by omega) with z | z | z
  · exact absurd (by rw [e, z]; decide) h0
  · exact absurd (by rw [e, z]; decide) h1
  · rw [e, z]; decide
theorem ba_bad {L : Lg} {k w : Int32} (h : k < 0 ∨ nI (gN L) ≤ k ∨ w < 0 ∨ 5 < w) : baR L k w = (1, 0) := by unfold baR; rw [if_pos h]
theorem ba_ok {L : Lg} {k : Nat} {w : Int32} (hk : k < gN L) (hn : gN L ≤ 2000) (h2 : ¬ w < 0) (h3 : ¬ 5 < w) : baR L (nI k) w = (0, if w = 0 then (gB L k).toInt64 else if w = 1 then gP L k else if w = 2 then (gX L k).toInt64 else if w = 3 then (gS L k).toInt64 else if w = 4 then (gL L k).toInt64 else if kno (gP L) k (gN L) then 1 else 0) := by
  unfold baR
  rw [nI_clamp (by omega), if_neg (fun z => z.elim (nI_pos (by omega)) (fun y => y.elim (nI_ge hk (by omega)) (fun x => x.elim h2 h3)))]
theorem ba_0 {L : Lg} {k : Nat} (hk : k < gN L) (hn : gN L ≤ 2000) : baR L (nI k) 0 = (0, (gB L k).toInt64) := by rw [ba_ok hk hn (by decide) (by decide), if_pos rfl]
theorem ba_1 {L : Lg} {k : Nat} (hk : k < gN L) (hn : gN L ≤ 2000) : baR L (nI k) 1 = (0, gP L k) := by rw [ba_ok hk hn (by decide) (by decide), if_neg (by decide), if_pos rfl]
theorem ba_2 {L : Lg} {k : Nat} (hk : k < gN L) (hn : gN L ≤ 2000) : baR L (nI k) 2 = (0, (gX L k).toInt64) := by rw [ba_ok hk hn (by decide) (by decide), if_neg (by decide), if_neg (by decide), if_pos rfl]
theorem ba_3 {L : Lg} {k : Nat} (hk : k < gN L) (hn : gN L ≤ 2000) : baR L (nI k) 3 = (0, (gS L k).toInt64) := by rw [ba_ok hk hn (by decide) (by decide), if_neg (by decide), if_neg (by decide), if_neg (by decide), if_pos rfl]
theorem ba_4 {L : Lg} {k : Nat} (hk : k < gN L) (hn : gN L ≤ 2000) : baR L (nI k) 4 = (0, (gL L k).toInt64) := by rw [ba_ok hk hn (by decide) (by decide), if_neg (by decide), if_neg (by decide), if_neg (by decide), if_neg (by decide), if_pos rfl]
theorem ba_5 {L : Lg} {k : Nat} (hk : k < gN L) (hn : gN L ≤ 2000) : baR L (nI k) 5 = (0, if kno (gP L) k (gN L) then 1 else 0) := by rw [ba_ok hk hn (by decide) (by decide), if_neg (by decide), if_neg (by decide), if_neg (by decide), if_neg (by decide), if_neg (by decide)]
theorem k_nat {k : Int32} {n : Nat} (hn : n ≤ 2000) (h1 : ¬ k < 0) (h2 : ¬ nI n ≤ k) : ∃ j : Nat, j < n ∧ k = nI j := by
  obtain ⟨N, hN, e⟩ := nI_of h1
  rw [e] at h2
  exact ⟨N, Nat.not_le.mp (fun z => h2 (nI_le z hN)), e⟩
theorem co_bad {L : Lg} {w : Int32} (h : w < 0 ∨ 2 < w) : coR L w = (1, 0) := by unfold coR; rw [if_pos h]
theorem co_ok {L : Lg} {w : Int32} (h1 : ¬ w < 0) (h2 : ¬ 2 < w) : coR L w = (0, if w = 0 then nI (gN L) else if w = 1 then nI (dcnt (gP L) (gN L)) else gE L) := by
  unfold coR
  rw [if_neg (fun z => z.elim h1 h2)]
theorem kno_iff {L : Lg} {P : Pg} (hl : LogOK L) (h : PgOK (gP L) (gN L) P) {k : Nat} (hk : k < gN L) : pK P k = if kno (gP L) k (gN L) then 1 else 0 := by
  rw [h.2.2.2.2.2.2.1 k hk]
  have := ge_m1 (hl.2.2 k).2.1
  by_cases c : kno (gP L) k (gN L)
  · rw [if_pos c, if_pos ⟨this.mp c.1, c.2⟩]
  · rw [if_neg c, if_neg (fun z => c ⟨this.mpr z.1, z.2⟩)]
theorem kno_0 {L : Lg} {P : Pg} (hl : LogOK L) (h : PgOK (gP L) (gN L) P) {k : Nat} (hk : k < gN L) (h0 : pK P k = 0) : ¬ kno (gP L) k (gN L) := by
  intro c
  rw [kno_iff hl h hk, if_pos c] at h0
  exact absurd h0 (by decide)
theorem kno_1 {L : Lg} {P : Pg} (hl : LogOK L) (h : PgOK (gP L) (gN L) P) {k : Nat} (hk : k < gN L) (h0 : ¬ pK P k = 0) : kno (gP L) k (gN L) := by
  apply Classical.byContradiction
  intro c
  exact h0 (by rw [kno_iff hl h hk, if_neg c])
theorem nar_K {L : Lg} {P : Pg} (h : PgOK (gP L) (gN L) P) {k : Nat} (hk : k < gN L) : vp_nar .boolean (pK P k) = pK P k := by
  rw [h.2.2.2.2.2.2.1 k hk]
  split <;> rfl
theorem nar_upd {f : Nat → Int32} {n a b : Nat} (h : ∀ q, q < n → vp_nar .boolean (f q) = f q) (ha : a < n) : ∀ q, q < n → vp_nar .boolean (upd f b (f a) q) = upd f b (f a) q := by
  intro q hq
  by_cases c : q = b
  · rw [c, pk_us]; exact h a ha
  · rw [pk_un c]; exact h q hq
end
section
/-! ProducerBook: drop, thin (written by prog/book3.py) -/
set_option maxRecDepth 100000
set_option maxHeartbeats 4000000 in
theorem mX1_drop (l : Launch) (Y : YT) (h : Nat → Nat) (hh : aD 13 h) (sz : Nat) (L : Lg) (P : Pg) (hfl : l.flags = flags0) (n1 : Int32) (hlg : LogOK L) (hok : PgOK (gP L) (gN L) P) : XMet l yX1_drop (ws_ yX1_drop cX1_drop 4 (some .int)) ({ frames := 7, cells := 1, slots := 6, locals := 101 }) (bPreX Y h L P sz [.ref (h 0), .int n1]) (xQ (fun o H => xpost Y (drR L n1).1 (.int (drR L n1).2.1) o H ∧ ∃ P2, PgOK (gP (drR L n1).2.2) (gN (drR L n1).2.2) P2 ∧ bH Y h (drR L n1).2.2 P2 H) (aA 13 h sz)) 1 6 (aA 13 h sz) := by
  refine XMet.ofW (cc := cX1_drop) (maxL := 4) (ret := (some .int)) (by decide) rfl ?_
  intro p e s m args below meth c s₁ B hml hno hv
  obtain ⟨rfl, hsz, hP, hYK, hex⟩ := hv
  obtain ⟨⟨n, e0⟩, fB, fP, fX, fS, fL⟩ := L
  obtain ⟨pn, fK, fT, fO, fA, fW⟩ := P
  have hx := B.exec
  have hb := B.bytes
  have hr := B.returns
  have hlk := B.notSynchronized
  have hts := atoms_spec (ws := ws_ yX1_drop cX1_drop 4 (some .int)) B.pre
  have hts : ∀ w ∈ lw_all, w.before _ s = true := fun w h => hts w (List.mem_cons_of_mem _ h)
  have hown : s.vm.findClass RX1 = some m.cls := findClass_of_methodNamed B.named
  subst hsz
  have hK := hYK.1
  have hP0 := hP
  have hS : va_S (aA 13 h s.heap.size) s.heap s.heap [] := va_S.rf
  have hl := lv_entry [.ref (h 0), .int n1] (n := 4) (Nat.le_of_ble_eq_true rfl)
  rw [lg_entry_eq]
  generalize (lg_sl [.ref (h 0), .int n1] ++ List.replicate (4 - (lg_sl [.ref (h 0), .int n1]).length) Slot.unset).toArray = ls at hl ⊢
  have hl : lv_has ls 4 [(0, .ref (h 0)), (1, .int n1)] := hl
  refine lv_iload_n hx hb dX1_drop_0 rfl (lv_at hl 1 rfl) ?_
  refine lv_if_lt (tgt := 15) hx hb dX1_drop_1 (by decide) (fun c_1 => ?_) (fun c_1 => ?_)
  · refine lv_iconst (v := 0) hx hb dX1_drop_15 (by decide) ?_
    refine xgo (xrunS (As := [.int 0]) (rest := []) ⟨hx, hb, hml, hown, hts⟩ (mX1_need0 l Y s.heap.size hfl) (va_cwS 1 hts (lw_S q146 q147 q11 q148) rfl rfl rfl (by decide +kernel) ⟨Nat.le_of_ble_eq_true rfl, Nat.le_of_ble_eq_true rfl⟩) ⟨sPreX_bl, fun U hU hW => ⟨rfl, by rw [hU], hYK.moved hW.alike, hex.moved hW (by rw [hU]; exact bk_kept hP0 hS)⟩⟩ rfl rfl hl.1 rfl (lv_room (Nat.le_of_ble_eq_true rfl)) dX1_drop_16 ⟨Nat.le_of_ble_eq_true rfl, Nat.le_of_ble_eq_true rfl⟩) hS (fun q _ h => Or.inr (Nat.le_trans hS.1 h)) (fun q h => Or.inr (Nat.le_trans hS.1 h)) (fun v H locs hv hz hk hS => ?_) (fun x H locs hv hz hk hS => ?_)
    · obtain ⟨a, ha, -⟩ := hv
      cases ha
    · obtain ⟨a, ha, hth⟩ := hv
      cases ha
      have hP := sA_keep hP hk
      exact wt_out hno hlk hS (by rw [dr_bad (L := ((n, e0), fB, fP, fX, fS, fL)) (Or.inl c_1)]; exact ⟨Or.inr (Or.inl ⟨rfl, _, rfl, hth⟩), _, hok, hP⟩)
  · refine lv_iload_n hx hb dX1_drop_4 rfl (lv_at hl 1 rfl) ?_
    refine lv_sipush (v := 2000) hx hb dX1_drop_5 (by decide) ?_
    refine lv_icmp_gt (tgt := 15) hx hb dX1_drop_8 (by decide) (fun c_8 => ?_) (fun c_8 => ?_)
    · refine lv_iconst (v := 0) hx hb dX1_drop_15 (by decide) ?_
      refine xgo (xrunS (As := [.int 0]) (rest := []) ⟨hx, hb, hml, hown, hts⟩ (mX1_need0 l Y s.heap.size hfl) (va_cwS 1 hts (lw_S q146 q147 q11 q148) rfl rfl rfl (by decide +kernel) ⟨Nat.le_of_ble_eq_true rfl, Nat.le_of_ble_eq_true rfl⟩) ⟨sPreX_bl, fun U hU hW => ⟨rfl, by rw [hU], hYK.moved hW.alike, hex.moved hW (by rw [hU]; exact bk_kept hP0 hS)⟩⟩ rfl rfl hl.1 rfl (lv_room (Nat.le_of_ble_eq_true rfl)) dX1_drop_16 ⟨Nat.le_of_ble_eq_true rfl, Nat.le_of_ble_eq_true rfl⟩) hS (fun q _ h => Or.inr (Nat.le_trans hS.1 h)) (fun q h => Or.inr (Nat.le_trans hS.1 h)) (fun v H locs hv hz hk hS => ?_) (fun x H locs hv hz hk hS => ?_)
      · obtain ⟨a, ha, -⟩ := hv
        cases ha
      · obtain ⟨a, ha, hth⟩ := hv
        cases ha
        have hP := sA_keep hP hk
        exact wt_out hno hlk hS (by rw [dr_bad (L := ((n, e0), fB, fP, fX, fS, fL)) (Or.inr c_8)]; exact ⟨Or.inr (Or.inl ⟨rfl, _, rfl, hth⟩), _, hok, hP⟩)
    · obtain ⟨N, hN, rfl⟩ := n_2000 c_1 c_8
      have hn : n ≤ 2000 := hlg.1
      obtain ⟨g, hg⟩ : ∃ g, g = min N n := ⟨_, rfl⟩
      refine lv_iconst (v := 1) hx hb dX1_drop_11 (by decide) ?_
      refine lv_goto (tgt := 16) hx hb dX1_drop_12 (by decide) ?_
      refine xgoV (xrunS (As := [.int 1]) (rest := []) ⟨hx, hb, hml, hown, hts⟩ (mX1_need1 l s.heap.size) (va_cwS 1 hts (lw_S q146 q147 q11 q148) rfl rfl rfl (by decide +kernel) ⟨Nat.le_of_ble_eq_true rfl, Nat.le_of_ble_eq_true rfl⟩) ⟨sPre_bl, fun U hU hW => ⟨rfl, congrArg Array.size hU⟩⟩ rfl rfl hl.1 rfl (lv_room (Nat.le_of_ble_eq_true rfl)) dX1_drop_16 ⟨Nat.le_of_ble_eq_true rfl, Nat.le_of_ble_eq_true rfl⟩) hS (fun q _ h => Or.inr (Nat.le_trans hS.1 h)) (fun q h => Or.inr (Nat.le_trans hS.1 h)) (fun H locs _ hz hk hS => ?_)
      have hP := sA_keep hP hk
      refine lv_iload_n hx hb dX1_drop_19 rfl (lv_at hl 1 rfl) ?_
      refine lv_aload_n hx hb dX1_drop_20 rfl (lv_at hl 0 rfl) ?_
      refine va_get (D := Y.1) (ci := 0) (v := .ref (h 1)) (C := RX1) (T := TX1) (N := 2) hx hb hts in_X1 hown hK hP 0 rfl rfl 0 (by decide) (hts _ q101) (fun _ h9 => h9) rfl dX1_drop_21 ?_
      refine va_get (D := Y.1) (ci := 1) (v := .int (nI n)) (C := RX2) (T := TX2) (N := 8) hx hb hts in_X2 hown hK hP 1 rfl rfl 6 (by decide) (hts _ q50) (fun _ h9 => h9) rfl dX1_drop_24 ?_
      refine va_mmin hx hb (hml.trans hl.1.symm) hown (hts _ q278) (hts _ q228) (hts _ q19) (hts _ q229) (Nat.le_of_ble_eq_true rfl) (Nat.le_of_ble_eq_true rfl) (Nat.le_of_ble_eq_true rfl) (Nat.le_of_ble_eq_true rfl) dX1_drop_27 ?_
      refine xi_eq (nI g) (by rw [hg]; exact min_if (by omega) (by omega)) ?_
      refine lv_istore_n (lv' := [(2, .int (nI g)), (0, .ref (h 0)), (1, .int (nI N))]) hx hb dX1_drop_30 rfl hl (by decide) rfl (fun ls hl => ?_)
      refine lv_iload_n hx hb dX1_drop_31 rfl (lv_at hl 0 rfl) ?_
      refine lv_istore_n (lv' := [(3, .int (nI g)), (2, .int (nI g)), (0, .ref (h 0)), (1, .int (nI N))]) hx hb dX1_drop_32 rfl hl (by decide) rfl (fun ls hl => ?_)
      have loop : ∀ (k j : Nat) (gB2 : Nat → Int32) (gP2 : Nat → Int64) (gX2 gS2 gL2 gK2 : Nat → Int32), j + k = n - g → drL ((n, e0), fB, fP, fX, fS, fL) g j = ((n, e0), gB2, gP2, gX2, gS2, gL2) → (∀ q, q < n → vp_nar .boolean (gK2 q) = gK2 q) → ∀ (H : Heap) (locs : List Loc), bH Y h ((n, e0), gB2, gP2, gX2, gS2, gL2) (pn, gK2, fT, fO, fA, fW) H → va_S (aA 13 h s.heap.size) s.heap H locs → ∀ (ls : Array Slot), lv_has ls 4 [(3, .int (nI (g + j))), (2, .int (nI g)), (0, .ref (h 0)), (1, .int (nI N))] → W p l e (headSpec (ws_ yX1_drop cX1_drop 4 (some .int)) ({ frames := 7, cells := 1, slots := 6, locals := 101 })).room s m ([.ref (h 0), .int (nI N)] : List Value).toArray below meth c H locs (0 + 0) (0 + 0) (XMQ below (xQ (fun o H => xpost Y (drR ((n, e0), fB, fP, fX, fS, fL) (nI N)).1 (.int (drR ((n, e0), fB, fP, fX, fS, fL) (nI N)).2.1) o H ∧ ∃ P2, PgOK (gP (drR ((n, e0), fB, fP, fX, fS, fL) (nI N)).2.2) (gN (drR ((n, e0), fB, fP, fX, fS, fL) (nI N)).2.2) P2 ∧ bH Y h (drR ((n, e0), fB, fP, fX, fS, fL) (nI N)).2.2 P2 H) (aA 13 h s.heap.size)) ([.ref (h 0), .int (nI N)] : List Value).toArray s 1 6 (aA 13 h s.heap.size)) (F0 m 33 ls []) := by
        intro k
        induction k with
        | zero =>
          intro j gB2 gP2 gX2 gS2 gL2 gK2 hj hdr hkk H locs hP hS ls hl
          refine lv_iload_n hx hb dX1_drop_33 rfl (lv_at hl 0 rfl) ?_
          refine lv_aload_n hx hb dX1_drop_34 rfl (lv_at hl 2 rfl) ?_
          refine va_get (D := Y.1) (ci := 0) (v := .ref (h 1)) (C := RX1) (T := TX1) (N := 2) hx hb hts in_X1 hown hK hP 0 rfl rfl 0 (by decide) (hts _ q101) (fun _ h9 => h9) rfl dX1_drop_35 ?_
          refine va_get (D := Y.1) (ci := 1) (v := .int (nI n)) (C := RX2) (T := TX2) (N := 8) hx hb hts in_X2 hown hK hP 1 rfl rfl 6 (by decide) (hts _ q50) (fun _ h9 => h9) rfl dX1_drop_38 ?_
          refine lv_icmp_ge (tgt := 61) hx hb dX1_drop_41 (by decide) (fun c_41 => ?_) (fun c_41 => ?_)
          · refine lv_aload_n hx hb dX1_drop_61 rfl (lv_at hl 2 rfl) ?_
            refine va_get (D := Y.1) (ci := 0) (v := .ref (h 1)) (C := RX1) (T := TX1) (N := 2) hx hb hts in_X1 hown hK hP 0 rfl rfl 0 (by decide) (hts _ q101) (fun _ h9 => h9) rfl dX1_drop_62 ?_
            refine lv_dup hx hb dX1_drop_65 rfl ?_
            refine va_get (D := Y.1) (ci := 1) (v := .int (nI n)) (C := RX2) (T := TX2) (N := 8) hx hb hts in_X2 hown hK hP 1 rfl rfl 6 (by decide) (hts _ q50) (fun _ h9 => h9) rfl dX1_drop_66 ?_
            refine lv_iload_n hx hb dX1_drop_69 rfl (lv_at hl 1 rfl) ?_
            refine lv_isub hx hb dX1_drop_70 ?_
            refine xi_eq (nI (n - g)) (pk_sub (by omega)) ?_
            refine va_put (D := Y.1) (ci := 1) (v := .int (nI (n - g))) (ty := .int) (C := RX2) (T := TX2) (N := 8) hx hb hts in_X2 tyX2 tyX2_ok nmX2 hown hK hP (bk_D hh) hS 1 rfl rfl 6 (by decide) (hts _ q50) (fun _ h9 => h9) rfl (by decide +kernel) rfl rfl (Nat.le_of_ble_eq_true rfl) dX1_drop_71 (fun H locs hP _ hS => ?_)
            have hP : bH Y h (((n - g), e0), gB2, gP2, gX2, gS2, gL2) (pn, gK2, fT, fO, fA, fW) H := hP
            refine lv_aload_n hx hb dX1_drop_74 rfl (lv_at hl 2 rfl) ?_
            refine va_get (D := Y.1) (ci := 0) (v := .ref (h 2)) (C := RX1) (T := TX1) (N := 2) hx hb hts in_X1 hown hK hP 0 rfl rfl 1 (by decide) (hts _ q102) (fun _ h9 => h9) rfl dX1_drop_75 ?_
            refine xgoV (xrunV (As := []) (rest := []) ⟨hx, hb, hml, hown, hts⟩ (mX3_rewrite l Y h hh H.size (((n - g), e0), gB2, gP2, gX2, gS2, gL2) _ (show n - g ≤ 2000 by omega)) (cwV 0 hts (lw_V q116 q117 q118 q13 q119) rfl rfl rfl (by decide +kernel) ⟨Nat.le_of_ble_eq_true rfl, Nat.le_of_ble_eq_true rfl⟩) ⟨bPre_bl, va_recv hK hP (ci := 2) (q0 := 2) rfl rfl, fun U hU hW => ⟨rfl, by rw [hU], by rw [hU]; exact hP, hYK.moved hW.alike⟩⟩ rfl rfl hl.1 rfl (lv_room (Nat.le_of_ble_eq_true rfl)) dX1_drop_78 ⟨Nat.le_of_ble_eq_true rfl, Nat.le_of_ble_eq_true rfl⟩) hS (fun q _ h => aA.le hS.1 h) (fun q h => aA.le hS.1 h) (fun H locs hP hz hk hS => ?_)
            obtain ⟨P2, hok2, hP⟩ := hP
            refine lv_iload_n hx hb dX1_drop_81 rfl (lv_at hl 1 rfl) ?_
            refine W.widen (k := 1) (n := 6) (by decide) (by decide) ?_
            exact xiret hx hb hr hlk hS dX1_drop_82 ((by rw [dr_run (L := ((n, e0), fB, fP, fX, fS, fL)) hN, show min N (gN ((n, e0), fB, fP, fX, fS, fL)) = g from hg.symm, show gN ((n, e0), fB, fP, fX, fS, fL) - g = j by show n - g = j; omega, hdr]; exact ⟨Or.inl ⟨rfl, rfl⟩, P2, by rw [show n - g = j by omega] at hok2; exact hok2, by rw [show n - g = j by omega] at hP; exact hP⟩))
          · exact absurd ((nI_le (by omega) (by omega) : nI n ≤ nI (g + j))) c_41
        | succ k ih =>
          intro j gB2 gP2 gX2 gS2 gL2 gK2 hj hdr hkk H locs hP hS ls hl
          have hlo := drL_ok g hlg j
          rw [hdr] at hlo
          refine lv_iload_n hx hb dX1_drop_33 rfl (lv_at hl 0 rfl) ?_
          refine lv_aload_n hx hb dX1_drop_34 rfl (lv_at hl 2 rfl) ?_
          refine va_get (D := Y.1) (ci := 0) (v := .ref (h 1)) (C := RX1) (T := TX1) (N := 2) hx hb hts in_X1 hown hK hP 0 rfl rfl 0 (by decide) (hts _ q101) (fun _ h9 => h9) rfl dX1_drop_35 ?_
          refine va_get (D := Y.1) (ci := 1) (v := .int (nI n)) (C := RX2) (T := TX2) (N := 8) hx hb hts in_X2 hown hK hP 1 rfl rfl 6 (by decide) (hts _ q50) (fun _ h9 => h9) rfl dX1_drop_38 ?_
          refine lv_icmp_ge (tgt := 61) hx hb dX1_drop_41 (by decide) (fun c_41 => ?_) (fun c_41 => ?_)
          · exact absurd c_41 ((fun z => absurd ((nI_leI (a := n) (b := g + j) (by omega) (by omega)).mp z) (by omega)))
          · refine lv_aload_n hx hb dX1_drop_44 rfl (lv_at hl 2 rfl) ?_
            refine va_get (D := Y.1) (ci := 0) (v := .ref (h 1)) (C := RX1) (T := TX1) (N := 2) hx hb hts in_X1 hown hK hP 0 rfl rfl 0 (by decide) (hts _ q101) (fun _ h9 => h9) rfl dX1_drop_45 ?_
            refine lv_iload_n hx hb dX1_drop_48 rfl (lv_at hl 0 rfl) ?_
            refine lv_iload_n hx hb dX1_drop_49 rfl (lv_at hl 0 rfl) ?_
            refine lv_iload_n hx hb dX1_drop_50 rfl (lv_at hl 1 rfl) ?_
            refine lv_isub hx hb dX1_drop_51 ?_
            refine xi_eq (nI j) (by rw [pk_sub (by omega), Nat.add_sub_cancel_left]) ?_
            refine xgoV (xrunV (As := [.int (nI (g + j)), .int (nI j)]) (rest := []) ⟨hx, hb, hml, hown, hts⟩ (mX2_move l Y h hh H.size _ _ (g + j) j (by omega) (by omega) (hlo.2.2 (g + j)).2.2.1 (hlo.2.2 (g + j)).2.2.2.1 (hkk (g + j) (by omega))) (cwV 2 hts (lw_V q112 q113 q114 q12 q115) rfl rfl rfl (by decide +kernel) ⟨Nat.le_of_ble_eq_true rfl, Nat.le_of_ble_eq_true rfl⟩) ⟨bPre_bl, va_recv hK hP (ci := 1) (q0 := 1) rfl rfl, fun U hU hW => ⟨rfl, by rw [hU], by rw [hU]; exact hP, hYK.moved hW.alike⟩⟩ rfl rfl hl.1 rfl (lv_room (Nat.le_of_ble_eq_true rfl)) dX1_drop_52 ⟨Nat.le_of_ble_eq_true rfl, Nat.le_of_ble_eq_true rfl⟩) hS (fun q _ h => aA.le hS.1 h) (fun q h => aA.le hS.1 h) (fun H locs hP hz hk hS => ?_)
            have hP : bH Y h ((n, e0), (upd gB2 j (gB2 (g + j))), (vp_updL gP2 j (gP2 (g + j))), (upd gX2 j (gX2 (g + j))), (upd gS2 j (gS2 (g + j))), (upd gL2 j (gL2 (g + j)))) (pn, (upd gK2 j (gK2 (g + j))), fT, fO, fA, fW) H := hP
            refine lv_iinc (v := nI ((g + j) + 1)) (lv' := [(3, .int (nI ((g + j) + 1))), (2, .int (nI g)), (0, .ref (h 0)), (1, .int (nI N))]) hx hb dX1_drop_55 hl (k := 0) rfl (inc1 _) (by decide) rfl (fun ls hl => ?_)
            refine lv_goto (tgt := 33) hx hb dX1_drop_58 (by decide) ?_
            exact ih (j + 1) _ _ _ _ _ _ (by omega) (by show lgMove (drL ((n, e0), fB, fP, fX, fS, fL) g j) (g + j) j = _; rw [hdr]; rfl) (nar_upd hkk (show g + j < n by omega)) _ _ hP hS ls (lv_sub hl [0, 1, 2, 3] rfl)
      exact loop (n - g) 0 _ _ _ _ _ _ (by omega) rfl (fun q hq => nar_K (L := ((n, e0), fB, fP, fX, fS, fL)) hok hq) _ _ hP hS ls (lv_sub hl [0, 1, 2, 3] rfl)
set_option maxHeartbeats 4000000 in
theorem mX1_thin (l : Launch) (Y : YT) (h : Nat → Nat) (hh : aD 13 h) (sz : Nat) (L : Lg) (P : Pg) (hlg : LogOK L) (hok : PgOK (gP L) (gN L) P) : XMet l yX1_thin (ws_ yX1_thin cX1_thin 3 (some .int)) ({ frames := 4, cells := 0, slots := 0, locals := 94 }) (bPre Y h L P sz [.ref (h 0)]) (xQ (pI (thR L).1 (fun H => ∃ P2, PgOK (gP (thR L).2) (gN (thR L).2) P2 ∧ bH Y h (thR L).2 P2 H)) (aA 13 h sz)) 0 0 (aA 13 h sz) := by
  refine XMet.ofW (cc := cX1_thin) (maxL := 3) (ret := (some .int)) (by decide) rfl ?_
  intro p e s m args below meth c s₁ B hml hno hv
  obtain ⟨rfl, hsz, hP, hYK⟩ := hv
  obtain ⟨⟨n, e0⟩, fB, fP, fX, fS, fL⟩ := L
  obtain ⟨pn, fK, fT, fO, fA, fW⟩ := P
  have hx := B.exec
  have hb := B.bytes
  have hr := B.returns
  have hlk := B.notSynchronized
  have hts := atoms_spec (ws := ws_ yX1_thin cX1_thin 3 (some .int)) B.pre
  have hts : ∀ w ∈ lw_all, w.before _ s = true := fun w h => hts w (List.mem_cons_of_mem _ h)
  have hown : s.vm.findClass RX1 = some m.cls := findClass_of_methodNamed B.named
  subst hsz
  have hK := hYK.1
  have hP0 := hP
  have hS : va_S (aA 13 h s.heap.size) s.heap s.heap [] := va_S.rf
  have hl := lv_entry [.ref (h 0)] (n := 3) (Nat.le_of_ble_eq_true rfl)
  rw [lg_entry_eq]
  generalize (lg_sl [.ref (h 0)] ++ List.replicate (3 - (lg_sl [.ref (h 0)]).length) Slot.unset).toArray = ls at hl ⊢
  have hl : lv_has ls 3 [(0, .ref (h 0))] := hl
  have hn : n ≤ 2000 := hlg.1
  refine lv_iconst (v := 0) hx hb dX1_thin_0 (by decide) ?_
  refine xi_eq (nI 0) (nI_0.symm) ?_
  refine lv_istore_n (lv' := [(1, .int (nI 0)), (0, .ref (h 0))]) hx hb dX1_thin_1 rfl hl (by decide) rfl (fun ls hl => ?_)
  refine lv_iconst (v := 0) hx hb dX1_thin_2 (by decide) ?_
  refine xi_eq (nI 0) (nI_0.symm) ?_
  refine lv_istore_n (lv' := [(2, .int (nI 0)), (1, .int (nI 0)), (0, .ref (h 0))]) hx hb dX1_thin_3 rfl hl (by decide) rfl (fun ls hl => ?_)
  have loop : ∀ (k j c2 : Nat) (gB2 : Nat → Int32) (gP2 : Nat → Int64) (gX2 gS2 gL2 gK2 : Nat → Int32), j + k = n → thL ((n, e0), fB, fP, fX, fS, fL) j = (c2, ((n, e0), gB2, gP2, gX2, gS2, gL2)) → (∀ q, q < n → vp_nar .boolean (gK2 q) = gK2 q) → (∀ q, j ≤ q → gK2 q = fK q) → ∀ (H : Heap) (locs : List Loc), bH Y h ((n, e0), gB2, gP2, gX2, gS2, gL2) (pn, gK2, fT, fO, fA, fW) H → va_S (aA 13 h s.heap.size) s.heap H locs → ∀ (ls : Array Slot), lv_has ls 3 [(2, .int (nI j)), (1, .int (nI c2)), (0, .ref (h 0))] → W p l e (headSpec (ws_ yX1_thin cX1_thin 3 (some .int)) ({ frames := 4, cells := 0, slots := 0, locals := 94 })).room s m ([.ref (h 0)] : List Value).toArray below meth c H locs 0 0 (XMQ below (xQ (pI (thR ((n, e0), fB, fP, fX, fS, fL)).1 (fun H => ∃ P2, PgOK (gP (thR ((n, e0), fB, fP, fX, fS, fL)).2) (gN (thR ((n, e0), fB, fP, fX, fS, fL)).2) P2 ∧ bH Y h (thR ((n, e0), fB, fP, fX, fS, fL)).2 P2 H)) (aA 13 h s.heap.size)) ([.ref (h 0)] : List Value).toArray s 0 0 (aA 13 h s.heap.size)) (F0 m 4 ls []) := by
    intro k
    induction k with
    | zero =>
      intro j c2 gB2 gP2 gX2 gS2 gL2 gK2 hj hth hkk hkf H locs hP hS ls hl
      have hlo := thL_ok hlg j
      rw [hth] at hlo
      obtain ⟨hlo, hc2, -⟩ := hlo
      have hc2 : c2 ≤ j := hc2
      refine lv_iload_n hx hb dX1_thin_4 rfl (lv_at hl 0 rfl) ?_
      refine lv_aload_n hx hb dX1_thin_5 rfl (lv_at hl 2 rfl) ?_
      refine va_get (D := Y.1) (ci := 0) (v := .ref (h 1)) (C := RX1) (T := TX1) (N := 2) hx hb hts in_X1 hown hK hP 0 rfl rfl 0 (by decide) (hts _ q101) (fun _ h9 => h9) rfl dX1_thin_6 ?_
      refine va_get (D := Y.1) (ci := 1) (v := .int (nI n)) (C := RX2) (T := TX2) (N := 8) hx hb hts in_X2 hown hK hP 1 rfl rfl 6 (by decide) (hts _ q50) (fun _ h9 => h9) rfl dX1_thin_9 ?_
      refine lv_icmp_ge (tgt := 45) hx hb dX1_thin_12 (by decide) (fun c_12 => ?_) (fun c_12 => ?_)
      · refine lv_aload_n hx hb dX1_thin_45 rfl (lv_at hl 2 rfl) ?_
        refine va_get (D := Y.1) (ci := 0) (v := .ref (h 1)) (C := RX1) (T := TX1) (N := 2) hx hb hts in_X1 hown hK hP 0 rfl rfl 0 (by decide) (hts _ q101) (fun _ h9 => h9) rfl dX1_thin_46 ?_
        refine va_get (D := Y.1) (ci := 1) (v := .int (nI n)) (C := RX2) (T := TX2) (N := 8) hx hb hts in_X2 hown hK hP 1 rfl rfl 6 (by decide) (hts _ q50) (fun _ h9 => h9) rfl dX1_thin_49 ?_
        refine lv_iload_n hx hb dX1_thin_52 rfl (lv_at hl 1 rfl) ?_
        refine lv_isub hx hb dX1_thin_53 ?_
        refine lv_istore_n (lv' := [(2, .int ((nI n) - (nI c2))), (1, .int (nI c2)), (0, .ref (h 0))]) hx hb dX1_thin_54 rfl hl (by decide) rfl (fun ls hl => ?_)
        refine lv_aload_n hx hb dX1_thin_55 rfl (lv_at hl 2 rfl) ?_
        refine va_get (D := Y.1) (ci := 0) (v := .ref (h 1)) (C := RX1) (T := TX1) (N := 2) hx hb hts in_X1 hown hK hP 0 rfl rfl 0 (by decide) (hts _ q101) (fun _ h9 => h9) rfl dX1_thin_56 ?_
        refine lv_iload_n hx hb dX1_thin_59 rfl (lv_at hl 1 rfl) ?_
        refine va_put (D := Y.1) (ci := 1) (v := .int (nI c2)) (ty := .int) (C := RX2) (T := TX2) (N := 8) hx hb hts in_X2 tyX2 tyX2_ok nmX2 hown hK hP (bk_D hh) hS 1 rfl rfl 6 (by decide) (hts _ q50) (fun _ h9 => h9) rfl (by decide +kernel) rfl rfl (Nat.le_of_ble_eq_true rfl) dX1_thin_60 (fun H locs hP _ hS => ?_)
        have hP : bH Y h ((c2, e0), gB2, gP2, gX2, gS2, gL2) (pn, gK2, fT, fO, fA, fW) H := hP
        refine lv_aload_n hx hb dX1_thin_63 rfl (lv_at hl 2 rfl) ?_
        refine va_get (D := Y.1) (ci := 0) (v := .ref (h 2)) (C := RX1) (T := TX1) (N := 2) hx hb hts in_X1 hown hK hP 0 rfl rfl 1 (by decide) (hts _ q102) (fun _ h9 => h9) rfl dX1_thin_64 ?_
        refine xgoV (xrunV (As := []) (rest := []) ⟨hx, hb, hml, hown, hts⟩ (mX3_rewrite l Y h hh H.size ((c2, e0), gB2, gP2, gX2, gS2, gL2) _ (show c2 ≤ 2000 by omega)) (cwV 0 hts (lw_V q116 q117 q118 q13 q119) rfl rfl rfl (by decide +kernel) ⟨Nat.le_of_ble_eq_true rfl, Nat.le_of_ble_eq_true rfl⟩) ⟨bPre_bl, va_recv hK hP (ci := 2) (q0 := 2) rfl rfl, fun U hU hW => ⟨rfl, by rw [hU], by rw [hU]; exact hP, hYK.moved hW.alike⟩⟩ rfl rfl hl.1 rfl (lv_room (Nat.le_of_ble_eq_true rfl)) dX1_thin_67 ⟨Nat.le_of_ble_eq_true rfl, Nat.le_of_ble_eq_true rfl⟩) hS (fun q _ h => aA.le hS.1 h) (fun q h => aA.le hS.1 h) (fun H locs hP hz hk hS => ?_)
        obtain ⟨P2, hok2, hP⟩ := hP
        refine lv_iload_n hx hb dX1_thin_70 rfl (lv_at hl 0 rfl) ?_
        exact xiret hx hb hr hlk hS dX1_thin_71 ((by unfold thR; rw [show gN ((n, e0), fB, fP, fX, fS, fL) = j by show n = j; omega, hth]; exact ⟨ri (by rw [show n = j by omega]), P2, hok2, hP⟩))
      · exact absurd ((nI_le (by omega) (by omega) : nI n ≤ nI j)) c_12
    | succ k ih =>
      intro j c2 gB2 gP2 gX2 gS2 gL2 gK2 hj hth hkk hkf H locs hP hS ls hl
      have hlo := thL_ok hlg j
      rw [hth] at hlo
      obtain ⟨hlo, hc2, -⟩ := hlo
      have hc2 : c2 ≤ j := hc2
      refine lv_iload_n hx hb dX1_thin_4 rfl (lv_at hl 0 rfl) ?_
      refine lv_aload_n hx hb dX1_thin_5 rfl (lv_at hl 2 rfl) ?_
      refine va_get (D := Y.1) (ci := 0) (v := .ref (h 1)) (C := RX1) (T := TX1) (N := 2) hx hb hts in_X1 hown hK hP 0 rfl rfl 0 (by decide) (hts _ q101) (fun _ h9 => h9) rfl dX1_thin_6 ?_
      refine va_get (D := Y.1) (ci := 1) (v := .int (nI n)) (C := RX2) (T := TX2) (N := 8) hx hb hts in_X2 hown hK hP 1 rfl rfl 6 (by decide) (hts _ q50) (fun _ h9 => h9) rfl dX1_thin_9 ?_
      refine lv_icmp_ge (tgt := 45) hx hb dX1_thin_12 (by decide) (fun c_12 => ?_) (fun c_12 => ?_)
      · exact absurd c_12 ((fun z => absurd ((nI_leI (a := n) (b := j) (by omega) (by omega)).mp z) (by omega)))
      · refine lv_aload_n hx hb dX1_thin_15 rfl (lv_at hl 2 rfl) ?_
        refine va_get (D := Y.1) (ci := 0) (v := .ref (h 1)) (C := RX1) (T := TX1) (N := 2) hx hb hts in_X1 hown hK hP 0 rfl rfl 0 (by decide) (hts _ q101) (fun _ h9 => h9) rfl dX1_thin_16 ?_
        refine va_get (D := Y.1) (ci := 1) (v := .ref (h 8)) (C := RX2) (T := TX2) (N := 8) hx hb hts in_X2 hown hK hP 1 rfl rfl 5 (by decide) (hts _ q48) (fun _ h9 => h9) rfl dX1_thin_19 ?_
        refine lv_iload_n hx hb dX1_thin_22 rfl (lv_at hl 0 rfl) ?_
        refine y_zald hx hb hK hP 8 3 gK2 rfl rfl j (by omega) (by decide) dX1_thin_23 ?_
        refine lv_if_eq (tgt := 39) hx hb dX1_thin_24 (by decide) (fun c_24 => ?_) (fun c_24 => ?_)
        · have hkn := kno_0 (L := ((n, e0), fB, fP, fX, fS, fL)) hlg hok (show j < n by omega) (show fK j = 0 by rw [← hkf j (Nat.le_refl j)]; exact c_24)
          refine lv_iinc (v := nI (j + 1)) (lv' := [(2, .int (nI (j + 1))), (1, .int (nI c2)), (0, .ref (h 0))]) hx hb dX1_thin_39 hl (k := 0) rfl (inc1 _) (by decide) rfl (fun ls hl => ?_)
          refine lv_goto (tgt := 4) hx hb dX1_thin_42 (by decide) ?_
          exact ih (j + 1) _ _ _ _ _ _ _ (by omega) (by rw [th_miss (L := ((n, e0), fB, fP, fX, fS, fL)) hkn, hth]) hkk (fun q hq => hkf q (by omega)) _ _ hP hS ls (lv_sub hl [0, 1, 2] rfl)
        · have hkn := kno_1 (L := ((n, e0), fB, fP, fX, fS, fL)) hlg hok (show j < n by omega) (show ¬ fK j = 0 by rw [← hkf j (Nat.le_refl j)]; exact c_24)
          refine lv_aload_n hx hb dX1_thin_27 rfl (lv_at hl 2 rfl) ?_
          refine va_get (D := Y.1) (ci := 0) (v := .ref (h 1)) (C := RX1) (T := TX1) (N := 2) hx hb hts in_X1 hown hK hP 0 rfl rfl 0 (by decide) (hts _ q101) (fun _ h9 => h9) rfl dX1_thin_28 ?_
          refine lv_iload_n hx hb dX1_thin_31 rfl (lv_at hl 0 rfl) ?_
          refine lv_iload_n hx hb dX1_thin_32 rfl (lv_at hl 1 rfl) ?_
          refine lv_iinc (v := nI (c2 + 1)) (lv' := [(1, .int (nI (c2 + 1))), (2, .int (nI j)), (0, .ref (h 0))]) hx hb dX1_thin_33 hl (k := 1) rfl (inc1 _) (by decide) rfl (fun ls hl => ?_)
          refine xgoV (xrunV (As := [.int (nI j), .int (nI c2)]) (rest := []) ⟨hx, hb, hml, hown, hts⟩ (mX2_move l Y h hh H.size _ _ j c2 (by omega) (by omega) (hlo.2.2 j).2.2.1 (hlo.2.2 j).2.2.2.1 (hkk j (by omega))) (cwV 2 hts (lw_V q112 q113 q114 q12 q115) rfl rfl rfl (by decide +kernel) ⟨Nat.le_of_ble_eq_true rfl, Nat.le_of_ble_eq_true rfl⟩) ⟨bPre_bl, va_recv hK hP (ci := 1) (q0 := 1) rfl rfl, fun U hU hW => ⟨rfl, by rw [hU], by rw [hU]; exact hP, hYK.moved hW.alike⟩⟩ rfl rfl hl.1 rfl (lv_room (Nat.le_of_ble_eq_true rfl)) dX1_thin_36 ⟨Nat.le_of_ble_eq_true rfl, Nat.le_of_ble_eq_true rfl⟩) hS (fun q _ h => aA.le hS.1 h) (fun q h => aA.le hS.1 h) (fun H locs hP hz hk hS => ?_)
          have hP : bH Y h ((n, e0), (upd gB2 c2 (gB2 j)), (vp_updL gP2 c2 (gP2 j)), (upd gX2 c2 (gX2 j)), (upd gS2 c2 (gS2 j)), (upd gL2 c2 (gL2 j))) (pn, (upd gK2 c2 (gK2 j)), fT, fO, fA, fW) H := hP
          refine lv_iinc (v := nI (j + 1)) (lv' := [(2, .int (nI (j + 1))), (1, .int (nI (c2 + 1))), (0, .ref (h 0))]) hx hb dX1_thin_39 hl (k := 1) rfl (inc1 _) (by decide) rfl (fun ls hl => ?_)
          refine lv_goto (tgt := 4) hx hb dX1_thin_42 (by decide) ?_
          exact ih (j + 1) _ _ _ _ _ _ _ (by omega) (by rw [th_hit (L := ((n, e0), fB, fP, fX, fS, fL)) hkn, hth]; rfl) (nar_upd hkk (show j < n by omega)) (fun q hq => by rw [pk_un (by omega)]; exact hkf q (by omega)) _ _ hP hS ls (lv_sub hl [0, 1, 2] rfl)
  exact loop n 0 0 _ _ _ _ _ _ (by omega) rfl (fun q hq => nar_K (L := ((n, e0), fB, fP, fX, fS, fL)) hok hq) (fun _ _ => rfl) _ _ hP hS ls (lv_sub hl [0, 1, 2] rfl)
end
section
/-! ProducerBook: known, batch, count (written by prog/book3.py) -/
set_option maxRecDepth 100000
set_option maxHeartbeats 4000000 in
theorem mX1_known (l : Launch) (Y : YT) (h : Nat → Nat) (hh : aD 13 h) (sz : Nat) (L : Lg) (P : Pg) (hfl : l.flags = flags0) (p1 : Int64) (w1 : Int32) (hlg : LogOK L) (hok : PgOK (gP L) (gN L) P) : XMet l yX1_known (ws_ yX1_known cX1_known 6 (some .int)) ({ frames := 7, cells := 1, slots := 6, locals := 101 }) (bPreX Y h L P sz [.ref (h 0), .long p1, .int w1]) (xQ (fun o H => xpost Y (knR L p1 w1).1 (.int (knR L p1 w1).2) o H ∧ bH Y h L P H) (aA 13 h sz)) 1 6 (aA 13 h sz) := by
  refine XMet.ofW (cc := cX1_known) (maxL := 6) (ret := (some .int)) (by decide) rfl ?_
  intro p e s m args below meth c s₁ B hml hno hv
  obtain ⟨rfl, hsz, hP, hYK, hex⟩ := hv
  obtain ⟨⟨n, e0⟩, fB, fP, fX, fS, fL⟩ := L
  obtain ⟨pn, fK, fT, fO, fA, fW⟩ := P
  have hx := B.exec
  have hb := B.bytes
  have hr := B.returns
  have hlk := B.notSynchronized
  have hts := atoms_spec (ws := ws_ yX1_known cX1_known 6 (some .int)) B.pre
  have hts : ∀ w ∈ lw_all, w.before _ s = true := fun w h => hts w (List.mem_cons_of_mem _ h)
  have hown : s.vm.findClass RX1 = some m.cls := findClass_of_methodNamed B.named
  subst hsz
  have hK := hYK.1
  have hP0 := hP
  have hS : va_S (aA 13 h s.heap.size) s.heap s.heap [] := va_S.rf
  have hl := lv_entry [.ref (h 0), .long p1, .int w1] (n := 6) (Nat.le_of_ble_eq_true rfl)
  rw [lg_entry_eq]
  generalize (lg_sl [.ref (h 0), .long p1, .int w1] ++ List.replicate (6 - (lg_sl [.ref (h 0), .long p1, .int w1]).length) Slot.unset).toArray = ls at hl ⊢
  have hl : lv_has ls 6 [(0, .ref (h 0)), (1, .long p1), (3, .int w1)] := hl
  refine lv_lload_n hx hb dX1_known_0 rfl (lv_at hl 1 rfl) ?_
  refine lv_lconst (v := 0) hx hb dX1_known_1 (by decide) ?_
  refine W.lcmp hx hb dX1_known_2 ?_
  refine lv_if_lt (tgt := 19) hx hb dX1_known_3 (by decide) (fun c_3 => ?_) (fun c_3 => ?_)
  · rw [lg_cmp_lt] at c_3
    refine lv_iconst (v := 0) hx hb dX1_known_19 (by decide) ?_
    refine xgo (xrunS (As := [.int 0]) (rest := []) ⟨hx, hb, hml, hown, hts⟩ (mX1_need0 l Y s.heap.size hfl) (va_cwS 1 hts (lw_S q146 q147 q11 q148) rfl rfl rfl (by decide +kernel) ⟨Nat.le_of_ble_eq_true rfl, Nat.le_of_ble_eq_true rfl⟩) ⟨sPreX_bl, fun U hU hW => ⟨rfl, by rw [hU], hYK.moved hW.alike, hex.moved hW (by rw [hU]; exact bk_kept hP0 hS)⟩⟩ rfl rfl hl.1 rfl (lv_room (Nat.le_of_ble_eq_true rfl)) dX1_known_20 ⟨Nat.le_of_ble_eq_true rfl, Nat.le_of_ble_eq_true rfl⟩) hS (fun q _ h => Or.inr (Nat.le_trans hS.1 h)) (fun q h => Or.inr (Nat.le_trans hS.1 h)) (fun v H locs hv hz hk hS => ?_) (fun x H locs hv hz hk hS => ?_)
    · obtain ⟨a, ha, -⟩ := hv
      cases ha
    · obtain ⟨a, ha, hth⟩ := hv
      cases ha
      have hP := sA_keep hP hk
      exact wt_out hno hlk hS (by rw [kn_bad (L := ((n, e0), fB, fP, fX, fS, fL)) (Or.inl c_3)]; exact ⟨Or.inr (Or.inl ⟨rfl, _, rfl, hth⟩), hP⟩)
  · rw [lg_cmp_lt] at c_3
    refine lv_iload_n hx hb dX1_known_6 rfl (lv_at hl 2 rfl) ?_
    refine lv_if_lt (tgt := 19) hx hb dX1_known_7 (by decide) (fun c_7 => ?_) (fun c_7 => ?_)
    · refine lv_iconst (v := 0) hx hb dX1_known_19 (by decide) ?_
      refine xgo (xrunS (As := [.int 0]) (rest := []) ⟨hx, hb, hml, hown, hts⟩ (mX1_need0 l Y s.heap.size hfl) (va_cwS 1 hts (lw_S q146 q147 q11 q148) rfl rfl rfl (by decide +kernel) ⟨Nat.le_of_ble_eq_true rfl, Nat.le_of_ble_eq_true rfl⟩) ⟨sPreX_bl, fun U hU hW => ⟨rfl, by rw [hU], hYK.moved hW.alike, hex.moved hW (by rw [hU]; exact bk_kept hP0 hS)⟩⟩ rfl rfl hl.1 rfl (lv_room (Nat.le_of_ble_eq_true rfl)) dX1_known_20 ⟨Nat.le_of_ble_eq_true rfl, Nat.le_of_ble_eq_true rfl⟩) hS (fun q _ h => Or.inr (Nat.le_trans hS.1 h)) (fun q h => Or.inr (Nat.le_trans hS.1 h)) (fun v H locs hv hz hk hS => ?_) (fun x H locs hv hz hk hS => ?_)
      · obtain ⟨a, ha, -⟩ := hv
        cases ha
      · obtain ⟨a, ha, hth⟩ := hv
        cases ha
        have hP := sA_keep hP hk
        exact wt_out hno hlk hS (by rw [kn_bad (L := ((n, e0), fB, fP, fX, fS, fL)) (Or.inr (Or.inl c_7))]; exact ⟨Or.inr (Or.inl ⟨rfl, _, rfl, hth⟩), hP⟩)
    · refine lv_iload_n hx hb dX1_known_10 rfl (lv_at hl 2 rfl) ?_
      refine lv_iconst (v := 4) hx hb dX1_known_11 (by decide) ?_
      refine lv_icmp_gt (tgt := 19) hx hb dX1_known_12 (by decide) (fun c_12 => ?_) (fun c_12 => ?_)
      · refine lv_iconst (v := 0) hx hb dX1_known_19 (by decide) ?_
        refine xgo (xrunS (As := [.int 0]) (rest := []) ⟨hx, hb, hml, hown, hts⟩ (mX1_need0 l Y s.heap.size hfl) (va_cwS 1 hts (lw_S q146 q147 q11 q148) rfl rfl rfl (by decide +kernel) ⟨Nat.le_of_ble_eq_true rfl, Nat.le_of_ble_eq_true rfl⟩) ⟨sPreX_bl, fun U hU hW => ⟨rfl, by rw [hU], hYK.moved hW.alike, hex.moved hW (by rw [hU]; exact bk_kept hP0 hS)⟩⟩ rfl rfl hl.1 rfl (lv_room (Nat.le_of_ble_eq_true rfl)) dX1_known_20 ⟨Nat.le_of_ble_eq_true rfl, Nat.le_of_ble_eq_true rfl⟩) hS (fun q _ h => Or.inr (Nat.le_trans hS.1 h)) (fun q h => Or.inr (Nat.le_trans hS.1 h)) (fun v H locs hv hz hk hS => ?_) (fun x H locs hv hz hk hS => ?_)
        · obtain ⟨a, ha, -⟩ := hv
          cases ha
        · obtain ⟨a, ha, hth⟩ := hv
          cases ha
          have hP := sA_keep hP hk
          exact wt_out hno hlk hS (by rw [kn_bad (L := ((n, e0), fB, fP, fX, fS, fL)) (Or.inr (Or.inr c_12))]; exact ⟨Or.inr (Or.inl ⟨rfl, _, rfl, hth⟩), hP⟩)
      · refine lv_iconst (v := 1) hx hb dX1_known_15 (by decide) ?_
        refine lv_goto (tgt := 20) hx hb dX1_known_16 (by decide) ?_
        refine xgoV (xrunS (As := [.int 1]) (rest := []) ⟨hx, hb, hml, hown, hts⟩ (mX1_need1 l s.heap.size) (va_cwS 1 hts (lw_S q146 q147 q11 q148) rfl rfl rfl (by decide +kernel) ⟨Nat.le_of_ble_eq_true rfl, Nat.le_of_ble_eq_true rfl⟩) ⟨sPre_bl, fun U hU hW => ⟨rfl, congrArg Array.size hU⟩⟩ rfl rfl hl.1 rfl (lv_room (Nat.le_of_ble_eq_true rfl)) dX1_known_20 ⟨Nat.le_of_ble_eq_true rfl, Nat.le_of_ble_eq_true rfl⟩) hS (fun q _ h => Or.inr (Nat.le_trans hS.1 h)) (fun q h => Or.inr (Nat.le_trans hS.1 h)) (fun H locs _ hz hk hS => ?_)
        have hP := sA_keep hP hk
        refine lv_aload_n hx hb dX1_known_23 rfl (lv_at hl 0 rfl) ?_
        refine va_get (D := Y.1) (ci := 0) (v := .ref (h 2)) (C := RX1) (T := TX1) (N := 2) hx hb hts in_X1 hown hK hP 0 rfl rfl 1 (by decide) (hts _ q102) (fun _ h9 => h9) rfl dX1_known_24 ?_
        refine lv_lload_n hx hb dX1_known_27 rfl (lv_at hl 1 rfl) ?_
        refine xgoE (xrunV (As := [.long p1]) (rest := []) ⟨hx, hb, hml, hown, hts⟩ (mX3_find l Y h hh H.size _ _ p1 hok.2.2.2.2.2.2.2 (Nat.le_trans hok.le hlg.1)) (cwV 1 hts (lw_V q215 q216 q217 q13 q218) rfl rfl rfl (by decide +kernel) ⟨Nat.le_of_ble_eq_true rfl, Nat.le_of_ble_eq_true rfl⟩) ⟨bPre_bl, va_recv hK hP (ci := 2) (q0 := 2) rfl rfl, fun U hU hW => ⟨rfl, by rw [hU], by rw [hU]; exact hP, hYK.moved hW.alike⟩⟩ rfl rfl hl.1 rfl (lv_room (Nat.le_of_ble_eq_true rfl)) dX1_known_28 ⟨Nat.le_of_ble_eq_true rfl, Nat.le_of_ble_eq_true rfl⟩) hS (fun q _ h => aA.le hS.1 h) (fun q h => aA.le hS.1 h) (fun r28 H locs hP hz hk hS => ?_)
        obtain ⟨hr28, hP⟩ := hP
        have hpm : p1 ≠ -1 := fun z => c_3 (by rw [z]; decide)
        rcases hr28 with ⟨rfl, hnp⟩ | ⟨g, hg, rfl, hgo⟩
        · have hnone : cnt fP p1 n = 0 := by
            rcases Nat.eq_zero_or_pos (cnt fP p1 n) with z | z
            · exact z
            · obtain ⟨k, hk⟩ := occ_some z
              obtain ⟨a1, a2, -⟩ := occ_spec hk
              obtain ⟨g, hg, ho⟩ := hok.2.1 k a1 (fun e => hpm (a2.symm.trans e))
              exact absurd (ho.trans a2) (hnp g hg)
          refine lv_istore (lv' := [(4, .int (-1)), (0, .ref (h 0)), (1, .long p1), (3, .int w1)]) hx hb dX1_known_31 hl (by decide) rfl (fun ls hl => ?_)
          refine lv_iload hx hb dX1_known_33 (lv_at hl 0 rfl) ?_
          refine lv_iconst (v := (-1)) hx hb dX1_known_35 (by decide) ?_
          refine lv_icmp_ne (tgt := 49) hx hb dX1_known_36 (by decide) (fun c_36 => ?_) (fun c_36 => ?_)
          · exact absurd (rfl) c_36
          · refine lv_iload_n hx hb dX1_known_39 rfl (lv_at hl 3 rfl) ?_
            refine lv_if_ne (tgt := 47) hx hb dX1_known_40 (by decide) (fun c_40 => ?_) (fun c_40 => ?_)
            · refine lv_iconst (v := (-1)) hx hb dX1_known_47 (by decide) ?_
              refine W.widen (k := 1) (n := 6) (by decide) (by decide) ?_
              exact xiret hx hb hr hlk hS dX1_known_48 ((by rw [kn_n (L := ((n, e0), fB, fP, fX, fS, fL)) c_3 c_7 c_12 c_40 hnone]; exact ⟨Or.inl ⟨rfl, rfl⟩, hP⟩))
            · refine lv_iconst (v := 0) hx hb dX1_known_43 (by decide) ?_
              refine lv_goto (tgt := 48) hx hb dX1_known_44 (by decide) ?_
              refine W.widen (k := 1) (n := 6) (by decide) (by decide) ?_
              exact xiret hx hb hr hlk hS dX1_known_48 ((by subst c_40; rw [kn_0 (L := ((n, e0), fB, fP, fX, fS, fL)) c_3, show cnt (gP ((n, e0), fB, fP, fX, fS, fL)) p1 (gN ((n, e0), fB, fP, fX, fS, fL)) = 0 from hnone]; exact ⟨Or.inl ⟨rfl, rfl⟩, hP⟩))
        · have hn : n ≤ 2000 := hlg.1
          have hpn : pn ≤ n := hok.le
          have hg : g < pn := hg
          have hwv : fW g = nI (cnt fP p1 n) := by have := hok.2.2.2.2.1 g hg; rw [hgo] at this; exact this
          have hw0 : 0 < cnt fP p1 n := by have := (hok.2.2.1 g hg).2; rw [hgo] at this; exact this
          have hw00 : ¬ cnt (gP ((n, e0), fB, fP, fX, fS, fL)) p1 (gN ((n, e0), fB, fP, fX, fS, fL)) = 0 := Nat.ne_of_gt hw0
          have hA : ∀ i k, i < 5 → occ fP p1 n i = some k → fA (5 * g + (cnt fP p1 n - 1 - i) % 5) = nI k := fun i k hi hk => by have := hok.2.2.2.2.2.1 g i k hg hi (by rw [hgo]; exact hk); rw [hgo] at this; exact this
          have hcl := cnt_le fP p1 n
          obtain ⟨k0, hk0⟩ := occ_some hw0
          have hk0n : k0 < n := (occ_spec hk0).1
          obtain ⟨k4, hk4⟩ := occ_some (f := fP) (p := p1) (n := n) (i := min 5 (cnt fP p1 n) - 1) (by omega)
          have hk4n : k4 < n := (occ_spec hk4).1
          refine lv_istore (lv' := [(4, .int (nI g)), (0, .ref (h 0)), (1, .long p1), (3, .int w1)]) hx hb dX1_known_31 hl (by decide) rfl (fun ls hl => ?_)
          refine lv_iload hx hb dX1_known_33 (lv_at hl 0 rfl) ?_
          refine lv_iconst (v := (-1)) hx hb dX1_known_35 (by decide) ?_
          refine lv_icmp_ne (tgt := 49) hx hb dX1_known_36 (by decide) (fun c_36 => ?_) (fun c_36 => ?_)
          · refine lv_aload_n hx hb dX1_known_49 rfl (lv_at hl 1 rfl) ?_
            refine va_get (D := Y.1) (ci := 0) (v := .ref (h 2)) (C := RX1) (T := TX1) (N := 2) hx hb hts in_X1 hown hK hP 0 rfl rfl 1 (by decide) (hts _ q102) (fun _ h9 => h9) rfl dX1_known_50 ?_
            refine lv_iload hx hb dX1_known_53 (lv_at hl 0 rfl) ?_
            refine lv_iconst (v := 0) hx hb dX1_known_55 (by decide) ?_
            refine xi_eq (nI 0) (nI_0.symm) ?_
            refine xgoI (xrunV (As := [.int (nI g), .int (nI 0)]) (rest := []) ⟨hx, hb, hml, hown, hts⟩ (mX3_batch l Y h hh H.size _ _ g 0 (cnt fP p1 n) (by omega) hwv hw0 (by omega)) (cwV 2 hts (lw_V q219 q220 q221 q13 q222) rfl rfl rfl (by decide +kernel) ⟨Nat.le_of_ble_eq_true rfl, Nat.le_of_ble_eq_true rfl⟩) ⟨bPre_bl, va_recv hK hP (ci := 2) (q0 := 2) rfl rfl, fun U hU hW => ⟨rfl, by rw [hU], by rw [hU]; exact hP, hYK.moved hW.alike⟩⟩ rfl rfl hl.1 rfl (lv_room (Nat.le_of_ble_eq_true rfl)) dX1_known_56 ⟨Nat.le_of_ble_eq_true rfl, Nat.le_of_ble_eq_true rfl⟩) hS (fun q _ h => aA.le hS.1 h) (fun q h => aA.le hS.1 h) (fun H locs hP hz hk hS => ?_)
            refine xi_eq (nI k0) (hA 0 k0 (by decide) hk0) ?_
            refine lv_istore (lv' := [(5, .int (nI k0)), (4, .int (nI g)), (0, .ref (h 0)), (1, .long p1), (3, .int w1)]) hx hb dX1_known_59 hl (by decide) rfl (fun ls hl => ?_)
            refine lv_iload_n hx hb dX1_known_61 rfl (lv_at hl 4 rfl) ?_
            rcases w4 c_7 c_12 with rfl | rfl | rfl | rfl | rfl
            · refine lv_tableIn (tgt := 92) hx hb dX1_known_62 (by decide) (by decide) rfl (by decide) ?_
              refine lv_aload_n hx hb dX1_known_92 rfl (lv_at hl 2 rfl) ?_
              refine va_get (D := Y.1) (ci := 0) (v := .ref (h 2)) (C := RX1) (T := TX1) (N := 2) hx hb hts in_X1 hown hK hP 0 rfl rfl 1 (by decide) (hts _ q102) (fun _ h9 => h9) rfl dX1_known_93 ?_
              refine lv_iload hx hb dX1_known_96 (lv_at hl 1 rfl) ?_
              refine xgoI (xrunV (As := [.int (nI g)]) (rest := []) ⟨hx, hb, hml, hown, hts⟩ (mX3_known l Y h hh H.size _ _ g (cnt fP p1 n) (by omega) hwv (by omega)) (cwV 1 hts (lw_V q223 q224 q225 q13 q226) rfl rfl rfl (by decide +kernel) ⟨Nat.le_of_ble_eq_true rfl, Nat.le_of_ble_eq_true rfl⟩) ⟨bPre_bl, va_recv hK hP (ci := 2) (q0 := 2) rfl rfl, fun U hU hW => ⟨rfl, by rw [hU], by rw [hU]; exact hP, hYK.moved hW.alike⟩⟩ rfl rfl hl.1 rfl (lv_room (Nat.le_of_ble_eq_true rfl)) dX1_known_98 ⟨Nat.le_of_ble_eq_true rfl, Nat.le_of_ble_eq_true rfl⟩) hS (fun q _ h => aA.le hS.1 h) (fun q h => aA.le hS.1 h) (fun H locs hP hz hk hS => ?_)
              refine W.widen (k := 1) (n := 6) (by decide) (by decide) ?_
              exact xiret hx hb hr hlk hS dX1_known_101 ((by rw [kn_0 (L := ((n, e0), fB, fP, fX, fS, fL)) c_3 ]; exact ⟨Or.inl ⟨rfl, rfl⟩, hP⟩))
            · refine lv_tableIn (tgt := 102) hx hb dX1_known_62 (by decide) (by decide) rfl (by decide) ?_
              refine lv_aload_n hx hb dX1_known_102 rfl (lv_at hl 2 rfl) ?_
              refine va_get (D := Y.1) (ci := 0) (v := .ref (h 1)) (C := RX1) (T := TX1) (N := 2) hx hb hts in_X1 hown hK hP 0 rfl rfl 0 (by decide) (hts _ q101) (fun _ h9 => h9) rfl dX1_known_103 ?_
              refine va_get (D := Y.1) (ci := 1) (v := .ref (h 5)) (C := RX2) (T := TX2) (N := 8) hx hb hts in_X2 hown hK hP 1 rfl rfl 2 (by decide) (hts _ q41) (fun _ h9 => h9) rfl dX1_known_106 ?_
              refine lv_iload hx hb dX1_known_109 (lv_at hl 0 rfl) ?_
              refine y_sald hx hb hK hP 5 2 fX rfl rfl k0 (by omega) (by decide) dX1_known_111 ?_
              refine W.widen (k := 1) (n := 6) (by decide) (by decide) ?_
              exact xiret hx hb hr hlk hS dX1_known_112 ((by rw [kn_1 (L := ((n, e0), fB, fP, fX, fS, fL)) c_3 hw00 hk0]; exact ⟨Or.inl ⟨rfl, rfl⟩, hP⟩))
            · refine lv_tableIn (tgt := 113) hx hb dX1_known_62 (by decide) (by decide) rfl (by decide) ?_
              refine lv_aload_n hx hb dX1_known_113 rfl (lv_at hl 2 rfl) ?_
              refine va_get (D := Y.1) (ci := 0) (v := .ref (h 1)) (C := RX1) (T := TX1) (N := 2) hx hb hts in_X1 hown hK hP 0 rfl rfl 0 (by decide) (hts _ q101) (fun _ h9 => h9) rfl dX1_known_114 ?_
              refine lv_iload hx hb dX1_known_117 (lv_at hl 0 rfl) ?_
              refine xgoI (xrunV (As := [.int (nI k0)]) (rest := []) ⟨hx, hb, hml, hown, hts⟩ (mX2_next l Y h hh H.size _ _ k0 (by omega)) (cwV 1 hts (lw_V q230 q231 q232 q12 q233) rfl rfl rfl (by decide +kernel) ⟨Nat.le_of_ble_eq_true rfl, Nat.le_of_ble_eq_true rfl⟩) ⟨bPre_bl, va_recv hK hP (ci := 1) (q0 := 1) rfl rfl, fun U hU hW => ⟨rfl, by rw [hU], by rw [hU]; exact hP, hYK.moved hW.alike⟩⟩ rfl rfl hl.1 rfl (lv_room (Nat.le_of_ble_eq_true rfl)) dX1_known_119 ⟨Nat.le_of_ble_eq_true rfl, Nat.le_of_ble_eq_true rfl⟩) hS (fun q _ h => aA.le hS.1 h) (fun q h => aA.le hS.1 h) (fun H locs hP hz hk hS => ?_)
              refine W.widen (k := 1) (n := 6) (by decide) (by decide) ?_
              exact xiret hx hb hr hlk hS dX1_known_122 ((by rw [kn_2 (L := ((n, e0), fB, fP, fX, fS, fL)) c_3 hw00 hk0]; exact ⟨Or.inl ⟨rfl, rfl⟩, hP⟩))
            · refine lv_tableIn (tgt := 123) hx hb dX1_known_62 (by decide) (by decide) rfl (by decide) ?_
              refine lv_aload_n hx hb dX1_known_123 rfl (lv_at hl 2 rfl) ?_
              refine va_get (D := Y.1) (ci := 0) (v := .ref (h 1)) (C := RX1) (T := TX1) (N := 2) hx hb hts in_X1 hown hK hP 0 rfl rfl 0 (by decide) (hts _ q101) (fun _ h9 => h9) rfl dX1_known_124 ?_
              refine va_get (D := Y.1) (ci := 1) (v := .ref (h 3)) (C := RX2) (T := TX2) (N := 8) hx hb hts in_X2 hown hK hP 1 rfl rfl 0 (by decide) (hts _ q36) (fun _ h9 => h9) rfl dX1_known_127 ?_
              refine lv_iload hx hb dX1_known_130 (lv_at hl 0 rfl) ?_
              refine y_iald hx hb hK hP 3 0 fB rfl rfl k0 (by omega) (by decide) dX1_known_132 ?_
              refine W.widen (k := 1) (n := 6) (by decide) (by decide) ?_
              exact xiret hx hb hr hlk hS dX1_known_133 ((by rw [kn_3 (L := ((n, e0), fB, fP, fX, fS, fL)) c_3 hw00 hk0]; exact ⟨Or.inl ⟨rfl, rfl⟩, hP⟩))
            · refine lv_tableOut (tgt := 134) hx hb dX1_known_62 (Or.inr (by decide)) (by decide) ?_
              refine lv_aload_n hx hb dX1_known_134 rfl (lv_at hl 2 rfl) ?_
              refine va_get (D := Y.1) (ci := 0) (v := .ref (h 1)) (C := RX1) (T := TX1) (N := 2) hx hb hts in_X1 hown hK hP 0 rfl rfl 0 (by decide) (hts _ q101) (fun _ h9 => h9) rfl dX1_known_135 ?_
              refine va_get (D := Y.1) (ci := 1) (v := .ref (h 3)) (C := RX2) (T := TX2) (N := 8) hx hb hts in_X2 hown hK hP 1 rfl rfl 0 (by decide) (hts _ q36) (fun _ h9 => h9) rfl dX1_known_138 ?_
              refine lv_aload_n hx hb dX1_known_141 rfl (lv_at hl 2 rfl) ?_
              refine va_get (D := Y.1) (ci := 0) (v := .ref (h 2)) (C := RX1) (T := TX1) (N := 2) hx hb hts in_X1 hown hK hP 0 rfl rfl 1 (by decide) (hts _ q102) (fun _ h9 => h9) rfl dX1_known_142 ?_
              refine lv_iload hx hb dX1_known_145 (lv_at hl 1 rfl) ?_
              refine lv_aload_n hx hb dX1_known_147 rfl (lv_at hl 2 rfl) ?_
              refine va_get (D := Y.1) (ci := 0) (v := .ref (h 2)) (C := RX1) (T := TX1) (N := 2) hx hb hts in_X1 hown hK hP 0 rfl rfl 1 (by decide) (hts _ q102) (fun _ h9 => h9) rfl dX1_known_148 ?_
              refine lv_iload hx hb dX1_known_151 (lv_at hl 1 rfl) ?_
              refine xgoI (xrunV (As := [.int (nI g)]) (rest := [.int (nI g), .ref (h 2), .ref (h 3)]) ⟨hx, hb, hml, hown, hts⟩ (mX3_known l Y h hh H.size _ _ g (cnt fP p1 n) (by omega) hwv (by omega)) (cwV 1 hts (lw_V q223 q224 q225 q13 q226) rfl rfl rfl (by decide +kernel) ⟨Nat.le_of_ble_eq_true rfl, Nat.le_of_ble_eq_true rfl⟩) ⟨bPre_bl, va_recv hK hP (ci := 2) (q0 := 2) rfl rfl, fun U hU hW => ⟨rfl, by rw [hU], by rw [hU]; exact hP, hYK.moved hW.alike⟩⟩ rfl rfl hl.1 rfl (lv_room (Nat.le_of_ble_eq_true rfl)) dX1_known_153 ⟨Nat.le_of_ble_eq_true rfl, Nat.le_of_ble_eq_true rfl⟩) hS (fun q _ h => aA.le hS.1 h) (fun q h => aA.le hS.1 h) (fun H locs hP hz hk hS => ?_)
              refine lv_iconst (v := 1) hx hb dX1_known_156 (by decide) ?_
              refine lv_isub hx hb dX1_known_157 ?_
              refine xi_eq (nI (min 5 (cnt fP p1 n) - 1)) (pk_sub (b := 1) (by omega)) ?_
              refine xgoI (xrunV (As := [.int (nI g), .int (nI (min 5 (cnt fP p1 n) - 1))]) (rest := [.ref (h 3)]) ⟨hx, hb, hml, hown, hts⟩ (mX3_batch l Y h hh H.size _ _ g (min 5 (cnt fP p1 n) - 1) (cnt fP p1 n) (by omega) hwv (by omega) (by omega)) (cwV 2 hts (lw_V q219 q220 q221 q13 q222) rfl rfl rfl (by decide +kernel) ⟨Nat.le_of_ble_eq_true rfl, Nat.le_of_ble_eq_true rfl⟩) ⟨bPre_bl, va_recv hK hP (ci := 2) (q0 := 2) rfl rfl, fun U hU hW => ⟨rfl, by rw [hU], by rw [hU]; exact hP, hYK.moved hW.alike⟩⟩ rfl rfl hl.1 rfl (lv_room (Nat.le_of_ble_eq_true rfl)) dX1_known_158 ⟨Nat.le_of_ble_eq_true rfl, Nat.le_of_ble_eq_true rfl⟩) hS (fun q _ h => aA.le hS.1 h) (fun q h => aA.le hS.1 h) (fun H locs hP hz hk hS => ?_)
              refine xi_eq (nI k4) (hA _ k4 (by omega) hk4) ?_
              refine y_iald hx hb hK hP 3 0 fB rfl rfl k4 (by omega) (by decide) dX1_known_161 ?_
              refine W.widen (k := 1) (n := 6) (by decide) (by decide) ?_
              exact xiret hx hb hr hlk hS dX1_known_162 ((by rw [kn_4 (L := ((n, e0), fB, fP, fX, fS, fL)) c_3 hw00 hk4]; exact ⟨Or.inl ⟨rfl, rfl⟩, hP⟩))
          · exact absurd c_36 (m1_ne (by omega))
set_option maxHeartbeats 4000000 in
theorem mX1_batch (l : Launch) (Y : YT) (h : Nat → Nat) (hh : aD 13 h) (sz : Nat) (L : Lg) (P : Pg) (hfl : l.flags = flags0) (k1 w1 : Int32) (hlg : LogOK L) (hok : PgOK (gP L) (gN L) P) : XMet l yX1_batch (ws_ yX1_batch cX1_batch 3 (some .long)) ({ frames := 7, cells := 1, slots := 6, locals := 101 }) (bPreX Y h L P sz [.ref (h 0), .int k1, .int w1]) (xQ (fun o H => xpost Y (baR L k1 w1).1 (.long (baR L k1 w1).2) o H ∧ bH Y h L P H) (aA 13 h sz)) 1 6 (aA 13 h sz) := by
  refine XMet.ofW (cc := cX1_batch) (maxL := 3) (ret := (some .long)) (by decide) rfl ?_
  intro p e s m args below meth c s₁ B hml hno hv
  obtain ⟨rfl, hsz, hP, hYK, hex⟩ := hv
  obtain ⟨⟨n, e0⟩, fB, fP, fX, fS, fL⟩ := L
  obtain ⟨pn, fK, fT, fO, fA, fW⟩ := P
  have hx := B.exec
  have hb := B.bytes
  have hr := B.returns
  have hlk := B.notSynchronized
  have hts := atoms_spec (ws := ws_ yX1_batch cX1_batch 3 (some .long)) B.pre
  have hts : ∀ w ∈ lw_all, w.before _ s = true := fun w h => hts w (List.mem_cons_of_mem _ h)
  have hown : s.vm.findClass RX1 = some m.cls := findClass_of_methodNamed B.named
  subst hsz
  have hK := hYK.1
  have hP0 := hP
  have hS : va_S (aA 13 h s.heap.size) s.heap s.heap [] := va_S.rf
  have hl := lv_entry [.ref (h 0), .int k1, .int w1] (n := 3) (Nat.le_of_ble_eq_true rfl)
  rw [lg_entry_eq]
  generalize (lg_sl [.ref (h 0), .int k1, .int w1] ++ List.replicate (3 - (lg_sl [.ref (h 0), .int k1, .int w1]).length) Slot.unset).toArray = ls at hl ⊢
  have hl : lv_has ls 3 [(0, .ref (h 0)), (1, .int k1), (2, .int w1)] := hl
  refine lv_iload_n hx hb dX1_batch_0 rfl (lv_at hl 1 rfl) ?_
  refine lv_if_lt (tgt := 28) hx hb dX1_batch_1 (by decide) (fun c_1 => ?_) (fun c_1 => ?_)
  · refine lv_iconst (v := 0) hx hb dX1_batch_28 (by decide) ?_
    refine xgo (xrunS (As := [.int 0]) (rest := []) ⟨hx, hb, hml, hown, hts⟩ (mX1_need0 l Y s.heap.size hfl) (va_cwS 1 hts (lw_S q146 q147 q11 q148) rfl rfl rfl (by decide +kernel) ⟨Nat.le_of_ble_eq_true rfl, Nat.le_of_ble_eq_true rfl⟩) ⟨sPreX_bl, fun U hU hW => ⟨rfl, by rw [hU], hYK.moved hW.alike, hex.moved hW (by rw [hU]; exact bk_kept hP0 hS)⟩⟩ rfl rfl hl.1 rfl (lv_room (Nat.le_of_ble_eq_true rfl)) dX1_batch_29 ⟨Nat.le_of_ble_eq_true rfl, Nat.le_of_ble_eq_true rfl⟩) hS (fun q _ h => Or.inr (Nat.le_trans hS.1 h)) (fun q h => Or.inr (Nat.le_trans hS.1 h)) (fun v H locs hv hz hk hS => ?_) (fun x H locs hv hz hk hS => ?_)
    · obtain ⟨a, ha, -⟩ := hv
      cases ha
    · obtain ⟨a, ha, hth⟩ := hv
      cases ha
      have hP := sA_keep hP hk
      exact wt_out hno hlk hS (by rw [ba_bad (L := ((n, e0), fB, fP, fX, fS, fL)) (Or.inl c_1)]; exact ⟨Or.inr (Or.inl ⟨rfl, _, rfl, hth⟩), hP⟩)
  · refine lv_iload_n hx hb dX1_batch_4 rfl (lv_at hl 1 rfl) ?_
    refine lv_aload_n hx hb dX1_batch_5 rfl (lv_at hl 0 rfl) ?_
    refine va_get (D := Y.1) (ci := 0) (v := .ref (h 1)) (C := RX1) (T := TX1) (N := 2) hx hb hts in_X1 hown hK hP 0 rfl rfl 0 (by decide) (hts _ q101) (fun _ h9 => h9) rfl dX1_batch_6 ?_
    refine va_get (D := Y.1) (ci := 1) (v := .int (nI n)) (C := RX2) (T := TX2) (N := 8) hx hb hts in_X2 hown hK hP 1 rfl rfl 6 (by decide) (hts _ q50) (fun _ h9 => h9) rfl dX1_batch_9 ?_
    refine lv_icmp_ge (tgt := 28) hx hb dX1_batch_12 (by decide) (fun c_12 => ?_) (fun c_12 => ?_)
    · refine lv_iconst (v := 0) hx hb dX1_batch_28 (by decide) ?_
      refine xgo (xrunS (As := [.int 0]) (rest := []) ⟨hx, hb, hml, hown, hts⟩ (mX1_need0 l Y s.heap.size hfl) (va_cwS 1 hts (lw_S q146 q147 q11 q148) rfl rfl rfl (by decide +kernel) ⟨Nat.le_of_ble_eq_true rfl, Nat.le_of_ble_eq_true rfl⟩) ⟨sPreX_bl, fun U hU hW => ⟨rfl, by rw [hU], hYK.moved hW.alike, hex.moved hW (by rw [hU]; exact bk_kept hP0 hS)⟩⟩ rfl rfl hl.1 rfl (lv_room (Nat.le_of_ble_eq_true rfl)) dX1_batch_29 ⟨Nat.le_of_ble_eq_true rfl, Nat.le_of_ble_eq_true rfl⟩) hS (fun q _ h => Or.inr (Nat.le_trans hS.1 h)) (fun q h => Or.inr (Nat.le_trans hS.1 h)) (fun v H locs hv hz hk hS => ?_) (fun x H locs hv hz hk hS => ?_)
      · obtain ⟨a, ha, -⟩ := hv
        cases ha
      · obtain ⟨a, ha, hth⟩ := hv
        cases ha
        have hP := sA_keep hP hk
        exact wt_out hno hlk hS (by rw [ba_bad (L := ((n, e0), fB, fP, fX, fS, fL)) (Or.inr (Or.inl c_12))]; exact ⟨Or.inr (Or.inl ⟨rfl, _, rfl, hth⟩), hP⟩)
    · refine lv_iload_n hx hb dX1_batch_15 rfl (lv_at hl 2 rfl) ?_
      refine lv_if_lt (tgt := 28) hx hb dX1_batch_16 (by decide) (fun c_16 => ?_) (fun c_16 => ?_)
      · refine lv_iconst (v := 0) hx hb dX1_batch_28 (by decide) ?_
        refine xgo (xrunS (As := [.int 0]) (rest := []) ⟨hx, hb, hml, hown, hts⟩ (mX1_need0 l Y s.heap.size hfl) (va_cwS 1 hts (lw_S q146 q147 q11 q148) rfl rfl rfl (by decide +kernel) ⟨Nat.le_of_ble_eq_true rfl, Nat.le_of_ble_eq_true rfl⟩) ⟨sPreX_bl, fun U hU hW => ⟨rfl, by rw [hU], hYK.moved hW.alike, hex.moved hW (by rw [hU]; exact bk_kept hP0 hS)⟩⟩ rfl rfl hl.1 rfl (lv_room (Nat.le_of_ble_eq_true rfl)) dX1_batch_29 ⟨Nat.le_of_ble_eq_true rfl, Nat.le_of_ble_eq_true rfl⟩) hS (fun q _ h => Or.inr (Nat.le_trans hS.1 h)) (fun q h => Or.inr (Nat.le_trans hS.1 h)) (fun v H locs hv hz hk hS => ?_) (fun x H locs hv hz hk hS => ?_)
        · obtain ⟨a, ha, -⟩ := hv
          cases ha
        · obtain ⟨a, ha, hth⟩ := hv
          cases ha
          have hP := sA_keep hP hk
          exact wt_out hno hlk hS (by rw [ba_bad (L := ((n, e0), fB, fP, fX, fS, fL)) (Or.inr (Or.inr (Or.inl c_16)))]; exact ⟨Or.inr (Or.inl ⟨rfl, _, rfl, hth⟩), hP⟩)
      · refine lv_iload_n hx hb dX1_batch_19 rfl (lv_at hl 2 rfl) ?_
        refine lv_iconst (v := 5) hx hb dX1_batch_20 (by decide) ?_
        refine lv_icmp_gt (tgt := 28) hx hb dX1_batch_21 (by decide) (fun c_21 => ?_) (fun c_21 => ?_)
        · refine lv_iconst (v := 0) hx hb dX1_batch_28 (by decide) ?_
          refine xgo (xrunS (As := [.int 0]) (rest := []) ⟨hx, hb, hml, hown, hts⟩ (mX1_need0 l Y s.heap.size hfl) (va_cwS 1 hts (lw_S q146 q147 q11 q148) rfl rfl rfl (by decide +kernel) ⟨Nat.le_of_ble_eq_true rfl, Nat.le_of_ble_eq_true rfl⟩) ⟨sPreX_bl, fun U hU hW => ⟨rfl, by rw [hU], hYK.moved hW.alike, hex.moved hW (by rw [hU]; exact bk_kept hP0 hS)⟩⟩ rfl rfl hl.1 rfl (lv_room (Nat.le_of_ble_eq_true rfl)) dX1_batch_29 ⟨Nat.le_of_ble_eq_true rfl, Nat.le_of_ble_eq_true rfl⟩) hS (fun q _ h => Or.inr (Nat.le_trans hS.1 h)) (fun q h => Or.inr (Nat.le_trans hS.1 h)) (fun v H locs hv hz hk hS => ?_) (fun x H locs hv hz hk hS => ?_)
          · obtain ⟨a, ha, -⟩ := hv
            cases ha
          · obtain ⟨a, ha, hth⟩ := hv
            cases ha
            have hP := sA_keep hP hk
            exact wt_out hno hlk hS (by rw [ba_bad (L := ((n, e0), fB, fP, fX, fS, fL)) (Or.inr (Or.inr (Or.inr c_21)))]; exact ⟨Or.inr (Or.inl ⟨rfl, _, rfl, hth⟩), hP⟩)
        · have hn : n ≤ 2000 := hlg.1
          obtain ⟨k, hkn, rfl⟩ := k_nat hn c_1 c_12
          refine lv_iconst (v := 1) hx hb dX1_batch_24 (by decide) ?_
          refine lv_goto (tgt := 29) hx hb dX1_batch_25 (by decide) ?_
          refine xgoV (xrunS (As := [.int 1]) (rest := []) ⟨hx, hb, hml, hown, hts⟩ (mX1_need1 l s.heap.size) (va_cwS 1 hts (lw_S q146 q147 q11 q148) rfl rfl rfl (by decide +kernel) ⟨Nat.le_of_ble_eq_true rfl, Nat.le_of_ble_eq_true rfl⟩) ⟨sPre_bl, fun U hU hW => ⟨rfl, congrArg Array.size hU⟩⟩ rfl rfl hl.1 rfl (lv_room (Nat.le_of_ble_eq_true rfl)) dX1_batch_29 ⟨Nat.le_of_ble_eq_true rfl, Nat.le_of_ble_eq_true rfl⟩) hS (fun q _ h => Or.inr (Nat.le_trans hS.1 h)) (fun q h => Or.inr (Nat.le_trans hS.1 h)) (fun H locs _ hz hk hS => ?_)
          have hP := sA_keep hP hk
          refine lv_iload_n hx hb dX1_batch_32 rfl (lv_at hl 2 rfl) ?_
          rcases w5 c_16 c_21 with rfl | rfl | rfl | rfl | rfl | rfl
          · refine lv_tableIn (tgt := 68) hx hb dX1_batch_33 (by decide) (by decide) rfl (by decide) ?_
            refine lv_aload_n hx hb dX1_batch_68 rfl (lv_at hl 0 rfl) ?_
            refine va_get (D := Y.1) (ci := 0) (v := .ref (h 1)) (C := RX1) (T := TX1) (N := 2) hx hb hts in_X1 hown hK hP 0 rfl rfl 0 (by decide) (hts _ q101) (fun _ h9 => h9) rfl dX1_batch_69 ?_
            refine va_get (D := Y.1) (ci := 1) (v := .ref (h 3)) (C := RX2) (T := TX2) (N := 8) hx hb hts in_X2 hown hK hP 1 rfl rfl 0 (by decide) (hts _ q36) (fun _ h9 => h9) rfl dX1_batch_72 ?_
            refine lv_iload_n hx hb dX1_batch_75 rfl (lv_at hl 1 rfl) ?_
            refine y_iald hx hb hK hP 3 0 fB rfl rfl k (by omega) (by decide) dX1_batch_76 ?_
            refine lv_i2l (v := (fB k).toInt64) hx hb dX1_batch_77 rfl ?_
            refine W.widen (k := 1) (n := 6) (by decide) (by decide) ?_
            exact xlret hx hb hr hlk hS dX1_batch_78 ((by rw [ba_0 (L := ((n, e0), fB, fP, fX, fS, fL)) hkn hn]; exact ⟨Or.inl ⟨rfl, rfl⟩, hP⟩))
          · refine lv_tableIn (tgt := 79) hx hb dX1_batch_33 (by decide) (by decide) rfl (by decide) ?_
            refine lv_aload_n hx hb dX1_batch_79 rfl (lv_at hl 0 rfl) ?_
            refine va_get (D := Y.1) (ci := 0) (v := .ref (h 1)) (C := RX1) (T := TX1) (N := 2) hx hb hts in_X1 hown hK hP 0 rfl rfl 0 (by decide) (hts _ q101) (fun _ h9 => h9) rfl dX1_batch_80 ?_
            refine va_get (D := Y.1) (ci := 1) (v := .ref (h 4)) (C := RX2) (T := TX2) (N := 8) hx hb hts in_X2 hown hK hP 1 rfl rfl 1 (by decide) (hts _ q39) (fun _ h9 => h9) rfl dX1_batch_83 ?_
            refine lv_iload_n hx hb dX1_batch_86 rfl (lv_at hl 1 rfl) ?_
            refine y_lald hx hb hK hP 4 1 fP rfl rfl k (by omega) (by decide) dX1_batch_87 ?_
            refine W.widen (k := 1) (n := 6) (by decide) (by decide) ?_
            exact xlret hx hb hr hlk hS dX1_batch_88 ((by rw [ba_1 (L := ((n, e0), fB, fP, fX, fS, fL)) hkn hn]; exact ⟨Or.inl ⟨rfl, rfl⟩, hP⟩))
          · refine lv_tableIn (tgt := 89) hx hb dX1_batch_33 (by decide) (by decide) rfl (by decide) ?_
            refine lv_aload_n hx hb dX1_batch_89 rfl (lv_at hl 0 rfl) ?_
            refine va_get (D := Y.1) (ci := 0) (v := .ref (h 1)) (C := RX1) (T := TX1) (N := 2) hx hb hts in_X1 hown hK hP 0 rfl rfl 0 (by decide) (hts _ q101) (fun _ h9 => h9) rfl dX1_batch_90 ?_
            refine va_get (D := Y.1) (ci := 1) (v := .ref (h 5)) (C := RX2) (T := TX2) (N := 8) hx hb hts in_X2 hown hK hP 1 rfl rfl 2 (by decide) (hts _ q41) (fun _ h9 => h9) rfl dX1_batch_93 ?_
            refine lv_iload_n hx hb dX1_batch_96 rfl (lv_at hl 1 rfl) ?_
            refine y_sald hx hb hK hP 5 2 fX rfl rfl k (by omega) (by decide) dX1_batch_97 ?_
            refine lv_i2l (v := (fX k).toInt64) hx hb dX1_batch_98 rfl ?_
            refine W.widen (k := 1) (n := 6) (by decide) (by decide) ?_
            exact xlret hx hb hr hlk hS dX1_batch_99 ((by rw [ba_2 (L := ((n, e0), fB, fP, fX, fS, fL)) hkn hn]; exact ⟨Or.inl ⟨rfl, rfl⟩, hP⟩))
          · refine lv_tableIn (tgt := 100) hx hb dX1_batch_33 (by decide) (by decide) rfl (by decide) ?_
            refine lv_aload_n hx hb dX1_batch_100 rfl (lv_at hl 0 rfl) ?_
            refine va_get (D := Y.1) (ci := 0) (v := .ref (h 1)) (C := RX1) (T := TX1) (N := 2) hx hb hts in_X1 hown hK hP 0 rfl rfl 0 (by decide) (hts _ q101) (fun _ h9 => h9) rfl dX1_batch_101 ?_
            refine va_get (D := Y.1) (ci := 1) (v := .ref (h 6)) (C := RX2) (T := TX2) (N := 8) hx hb hts in_X2 hown hK hP 1 rfl rfl 3 (by decide) (hts _ q43) (fun _ h9 => h9) rfl dX1_batch_104 ?_
            refine lv_iload_n hx hb dX1_batch_107 rfl (lv_at hl 1 rfl) ?_
            refine y_iald hx hb hK hP 6 0 fS rfl rfl k (by omega) (by decide) dX1_batch_108 ?_
            refine lv_i2l (v := (fS k).toInt64) hx hb dX1_batch_109 rfl ?_
            refine W.widen (k := 1) (n := 6) (by decide) (by decide) ?_
            exact xlret hx hb hr hlk hS dX1_batch_110 ((by rw [ba_3 (L := ((n, e0), fB, fP, fX, fS, fL)) hkn hn]; exact ⟨Or.inl ⟨rfl, rfl⟩, hP⟩))
          · refine lv_tableIn (tgt := 111) hx hb dX1_batch_33 (by decide) (by decide) rfl (by decide) ?_
            refine lv_aload_n hx hb dX1_batch_111 rfl (lv_at hl 0 rfl) ?_
            refine va_get (D := Y.1) (ci := 0) (v := .ref (h 1)) (C := RX1) (T := TX1) (N := 2) hx hb hts in_X1 hown hK hP 0 rfl rfl 0 (by decide) (hts _ q101) (fun _ h9 => h9) rfl dX1_batch_112 ?_
            refine va_get (D := Y.1) (ci := 1) (v := .ref (h 7)) (C := RX2) (T := TX2) (N := 8) hx hb hts in_X2 hown hK hP 1 rfl rfl 4 (by decide) (hts _ q45) (fun _ h9 => h9) rfl dX1_batch_115 ?_
            refine lv_iload_n hx hb dX1_batch_118 rfl (lv_at hl 1 rfl) ?_
            refine y_sald hx hb hK hP 7 2 fL rfl rfl k (by omega) (by decide) dX1_batch_119 ?_
            refine lv_i2l (v := (fL k).toInt64) hx hb dX1_batch_120 rfl ?_
            refine W.widen (k := 1) (n := 6) (by decide) (by decide) ?_
            exact xlret hx hb hr hlk hS dX1_batch_121 ((by rw [ba_4 (L := ((n, e0), fB, fP, fX, fS, fL)) hkn hn]; exact ⟨Or.inl ⟨rfl, rfl⟩, hP⟩))
          · refine lv_tableOut (tgt := 122) hx hb dX1_batch_33 (Or.inr (by decide)) (by decide) ?_
            refine lv_aload_n hx hb dX1_batch_122 rfl (lv_at hl 0 rfl) ?_
            refine va_get (D := Y.1) (ci := 0) (v := .ref (h 1)) (C := RX1) (T := TX1) (N := 2) hx hb hts in_X1 hown hK hP 0 rfl rfl 0 (by decide) (hts _ q101) (fun _ h9 => h9) rfl dX1_batch_123 ?_
            refine va_get (D := Y.1) (ci := 1) (v := .ref (h 8)) (C := RX2) (T := TX2) (N := 8) hx hb hts in_X2 hown hK hP 1 rfl rfl 5 (by decide) (hts _ q48) (fun _ h9 => h9) rfl dX1_batch_126 ?_
            refine lv_iload_n hx hb dX1_batch_129 rfl (lv_at hl 1 rfl) ?_
            refine y_zald hx hb hK hP 8 3 fK rfl rfl k (by omega) (by decide) dX1_batch_130 ?_
            refine lv_if_eq (tgt := 138) hx hb dX1_batch_131 (by decide) (fun c_131 => ?_) (fun c_131 => ?_)
            · refine lv_lconst (v := 0) hx hb dX1_batch_138 (by decide) ?_
              refine W.widen (k := 1) (n := 6) (by decide) (by decide) ?_
              exact xlret hx hb hr hlk hS dX1_batch_139 ((by rw [ba_5 (L := ((n, e0), fB, fP, fX, fS, fL)) hkn hn, if_neg (kno_0 (L := ((n, e0), fB, fP, fX, fS, fL)) hlg hok hkn c_131)]; exact ⟨Or.inl ⟨rfl, rfl⟩, hP⟩))
            · refine lv_lconst (v := 1) hx hb dX1_batch_134 (by decide) ?_
              refine lv_goto (tgt := 139) hx hb dX1_batch_135 (by decide) ?_
              refine W.widen (k := 1) (n := 6) (by decide) (by decide) ?_
              exact xlret hx hb hr hlk hS dX1_batch_139 ((by rw [ba_5 (L := ((n, e0), fB, fP, fX, fS, fL)) hkn hn, if_pos (kno_1 (L := ((n, e0), fB, fP, fX, fS, fL)) hlg hok hkn c_131)]; exact ⟨Or.inl ⟨rfl, rfl⟩, hP⟩))
set_option maxHeartbeats 4000000 in
theorem mX1_count (l : Launch) (Y : YT) (h : Nat → Nat) (hh : aD 13 h) (sz : Nat) (L : Lg) (P : Pg) (hfl : l.flags = flags0) (w1 : Int32) (hlg : LogOK L) (hok : PgOK (gP L) (gN L) P) : XMet l yX1_count (ws_ yX1_count cX1_count 2 (some .int)) ({ frames := 7, cells := 1, slots := 6, locals := 101 }) (bPreX Y h L P sz [.ref (h 0), .int w1]) (xQ (fun o H => xpost Y (coR L w1).1 (.int (coR L w1).2) o H ∧ bH Y h L P H) (aA 13 h sz)) 1 6 (aA 13 h sz) := by
  refine XMet.ofW (cc := cX1_count) (maxL := 2) (ret := (some .int)) (by decide) rfl ?_
  intro p e s m args below meth c s₁ B hml hno hv
  obtain ⟨rfl, hsz, hP, hYK, hex⟩ := hv
  obtain ⟨⟨n, e0⟩, fB, fP, fX, fS, fL⟩ := L
  obtain ⟨pn, fK, fT, fO, fA, fW⟩ := P
  have hx := B.exec
  have hb := B.bytes
  have hr := B.returns
  have hlk := B.notSynchronized
  have hts := atoms_spec (ws := ws_ yX1_count cX1_count 2 (some .int)) B.pre
  have hts : ∀ w ∈ lw_all, w.before _ s = true := fun w h => hts w (List.mem_cons_of_mem _ h)
  have hown : s.vm.findClass RX1 = some m.cls := findClass_of_methodNamed B.named
  subst hsz
  have hK := hYK.1
  have hP0 := hP
  have hS : va_S (aA 13 h s.heap.size) s.heap s.heap [] := va_S.rf
  have hl := lv_entry [.ref (h 0), .int w1] (n := 2) (Nat.le_of_ble_eq_true rfl)
  rw [lg_entry_eq]
  generalize (lg_sl [.ref (h 0), .int w1] ++ List.replicate (2 - (lg_sl [.ref (h 0), .int w1]).length) Slot.unset).toArray = ls at hl ⊢
  have hl : lv_has ls 2 [(0, .ref (h 0)), (1, .int w1)] := hl
  refine lv_iload_n hx hb dX1_count_0 rfl (lv_at hl 1 rfl) ?_
  refine lv_if_lt (tgt := 13) hx hb dX1_count_1 (by decide) (fun c_1 => ?_) (fun c_1 => ?_)
  · refine lv_iconst (v := 0) hx hb dX1_count_13 (by decide) ?_
    refine xgo (xrunS (As := [.int 0]) (rest := []) ⟨hx, hb, hml, hown, hts⟩ (mX1_need0 l Y s.heap.size hfl) (va_cwS 1 hts (lw_S q146 q147 q11 q148) rfl rfl rfl (by decide +kernel) ⟨Nat.le_of_ble_eq_true rfl, Nat.le_of_ble_eq_true rfl⟩) ⟨sPreX_bl, fun U hU hW => ⟨rfl, by rw [hU], hYK.moved hW.alike, hex.moved hW (by rw [hU]; exact bk_kept hP0 hS)⟩⟩ rfl rfl hl.1 rfl (lv_room (Nat.le_of_ble_eq_true rfl)) dX1_count_14 ⟨Nat.le_of_ble_eq_true rfl, Nat.le_of_ble_eq_true rfl⟩) hS (fun q _ h => Or.inr (Nat.le_trans hS.1 h)) (fun q h => Or.inr (Nat.le_trans hS.1 h)) (fun v H locs hv hz hk hS => ?_) (fun x H locs hv hz hk hS => ?_)
    · obtain ⟨a, ha, -⟩ := hv
      cases ha
    · obtain ⟨a, ha, hth⟩ := hv
      cases ha
      have hP := sA_keep hP hk
      exact wt_out hno hlk hS (by rw [co_bad (L := ((n, e0), fB, fP, fX, fS, fL)) (Or.inl c_1)]; exact ⟨Or.inr (Or.inl ⟨rfl, _, rfl, hth⟩), hP⟩)
  · refine lv_iload_n hx hb dX1_count_4 rfl (lv_at hl 1 rfl) ?_
    refine lv_iconst (v := 2) hx hb dX1_count_5 (by decide) ?_
    refine lv_icmp_gt (tgt := 13) hx hb dX1_count_6 (by decide) (fun c_6 => ?_) (fun c_6 => ?_)
    · refine lv_iconst (v := 0) hx hb dX1_count_13 (by decide) ?_
      refine xgo (xrunS (As := [.int 0]) (rest := []) ⟨hx, hb, hml, hown, hts⟩ (mX1_need0 l Y s.heap.size hfl) (va_cwS 1 hts (lw_S q146 q147 q11 q148) rfl rfl rfl (by decide +kernel) ⟨Nat.le_of_ble_eq_true rfl, Nat.le_of_ble_eq_true rfl⟩) ⟨sPreX_bl, fun U hU hW => ⟨rfl, by rw [hU], hYK.moved hW.alike, hex.moved hW (by rw [hU]; exact bk_kept hP0 hS)⟩⟩ rfl rfl hl.1 rfl (lv_room (Nat.le_of_ble_eq_true rfl)) dX1_count_14 ⟨Nat.le_of_ble_eq_true rfl, Nat.le_of_ble_eq_true rfl⟩) hS (fun q _ h => Or.inr (Nat.le_trans hS.1 h)) (fun q h => Or.inr (Nat.le_trans hS.1 h)) (fun v H locs hv hz hk hS => ?_) (fun x H locs hv hz hk hS => ?_)
      · obtain ⟨a, ha, -⟩ := hv
        cases ha
      · obtain ⟨a, ha, hth⟩ := hv
        cases ha
        have hP := sA_keep hP hk
        exact wt_out hno hlk hS (by rw [co_bad (L := ((n, e0), fB, fP, fX, fS, fL)) (Or.inr c_6)]; exact ⟨Or.inr (Or.inl ⟨rfl, _, rfl, hth⟩), hP⟩)
    · refine lv_iconst (v := 1) hx hb dX1_count_9 (by decide) ?_
      refine lv_goto (tgt := 14) hx hb dX1_count_10 (by decide) ?_
      refine xgoV (xrunS (As := [.int 1]) (rest := []) ⟨hx, hb, hml, hown, hts⟩ (mX1_need1 l s.heap.size) (va_cwS 1 hts (lw_S q146 q147 q11 q148) rfl rfl rfl (by decide +kernel) ⟨Nat.le_of_ble_eq_true rfl, Nat.le_of_ble_eq_true rfl⟩) ⟨sPre_bl, fun U hU hW => ⟨rfl, congrArg Array.size hU⟩⟩ rfl rfl hl.1 rfl (lv_room (Nat.le_of_ble_eq_true rfl)) dX1_count_14 ⟨Nat.le_of_ble_eq_true rfl, Nat.le_of_ble_eq_true rfl⟩) hS (fun q _ h => Or.inr (Nat.le_trans hS.1 h)) (fun q h => Or.inr (Nat.le_trans hS.1 h)) (fun H locs _ hz hk hS => ?_)
      have hP := sA_keep hP hk
      refine lv_iload_n hx hb dX1_count_17 rfl (lv_at hl 1 rfl) ?_
      refine lv_if_ne (tgt := 31) hx hb dX1_count_18 (by decide) (fun c_18 => ?_) (fun c_18 => ?_)
      · refine lv_iload_n hx hb dX1_count_31 rfl (lv_at hl 1 rfl) ?_
        refine lv_iconst (v := 1) hx hb dX1_count_32 (by decide) ?_
        refine lv_icmp_ne (tgt := 46) hx hb dX1_count_33 (by decide) (fun c_33 => ?_) (fun c_33 => ?_)
        · refine lv_aload_n hx hb dX1_count_46 rfl (lv_at hl 0 rfl) ?_
          refine va_get (D := Y.1) (ci := 0) (v := .ref (h 1)) (C := RX1) (T := TX1) (N := 2) hx hb hts in_X1 hown hK hP 0 rfl rfl 0 (by decide) (hts _ q101) (fun _ h9 => h9) rfl dX1_count_47 ?_
          refine va_get (D := Y.1) (ci := 1) (v := .int e0) (C := RX2) (T := TX2) (N := 8) hx hb hts in_X2 hown hK hP 1 rfl rfl 7 (by decide) (hts _ q53) (fun _ h9 => h9) rfl dX1_count_50 ?_
          refine W.widen (k := 1) (n := 6) (by decide) (by decide) ?_
          exact xiret hx hb hr hlk hS dX1_count_53 ((by rw [co_ok (L := ((n, e0), fB, fP, fX, fS, fL)) c_1 c_6, if_neg c_18, if_neg c_33]; exact ⟨Or.inl ⟨rfl, rfl⟩, hP⟩))
        · refine lv_aload_n hx hb dX1_count_36 rfl (lv_at hl 0 rfl) ?_
          refine va_get (D := Y.1) (ci := 0) (v := .ref (h 2)) (C := RX1) (T := TX1) (N := 2) hx hb hts in_X1 hown hK hP 0 rfl rfl 1 (by decide) (hts _ q102) (fun _ h9 => h9) rfl dX1_count_37 ?_
          refine va_get (D := Y.1) (ci := 2) (v := .int (nI pn)) (C := RX3) (T := TX3) (N := 6) hx hb hts in_X3 hown hK hP 2 rfl rfl 5 (by decide) (hts _ q87) (fun _ h9 => h9) rfl dX1_count_40 ?_
          refine lv_goto (tgt := 53) hx hb dX1_count_43 (by decide) ?_
          refine W.widen (k := 1) (n := 6) (by decide) (by decide) ?_
          exact xiret hx hb hr hlk hS dX1_count_53 ((by rw [co_ok (L := ((n, e0), fB, fP, fX, fS, fL)) c_1 c_6, if_neg c_18, if_pos c_33, show dcnt (gP ((n, e0), fB, fP, fX, fS, fL)) (gN ((n, e0), fB, fP, fX, fS, fL)) = pn from hok.1.symm]; exact ⟨Or.inl ⟨rfl, rfl⟩, hP⟩))
      · refine lv_aload_n hx hb dX1_count_21 rfl (lv_at hl 0 rfl) ?_
        refine va_get (D := Y.1) (ci := 0) (v := .ref (h 1)) (C := RX1) (T := TX1) (N := 2) hx hb hts in_X1 hown hK hP 0 rfl rfl 0 (by decide) (hts _ q101) (fun _ h9 => h9) rfl dX1_count_22 ?_
        refine va_get (D := Y.1) (ci := 1) (v := .int (nI n)) (C := RX2) (T := TX2) (N := 8) hx hb hts in_X2 hown hK hP 1 rfl rfl 6 (by decide) (hts _ q50) (fun _ h9 => h9) rfl dX1_count_25 ?_
        refine lv_goto (tgt := 53) hx hb dX1_count_28 (by decide) ?_
        refine W.widen (k := 1) (n := 6) (by decide) (by decide) ?_
        exact xiret hx hb hr hlk hS dX1_count_53 ((by rw [co_ok (L := ((n, e0), fB, fP, fX, fS, fL)) c_1 c_6, if_pos c_18]; exact ⟨Or.inl ⟨rfl, rfl⟩, hP⟩))
end
section
/-! laws for the reference -/
set_option maxRecDepth 100000
theorem i999 {l : Int32} : ¬ 999 < l ↔ l < 1000 := by
  rw [Int32.lt_iff_toInt_lt, Int32.lt_iff_toInt_lt, show (999 : Int32).toInt = 999 by decide, show (1000 : Int32).toInt = 1000 by decide]
  omega
theorem aft_long {S q : Nat} (hS : S < 2 ^ 31) (hq : q ≤ 999) : (((nI S).toInt64 + (nI q).toInt64 + 1) - ((nI S).toInt64 + (nI q).toInt64 + 1) / 2147483648 * 2147483648).toInt32 = aft (nI S) (nI q) := by
  rw [nI_l hS, nI_l (by omega : q < 2 ^ 31), lN_add, lN_1]
  have h1 : lN (S + q + 1) - lN (S + q + 1) / 2147483648 * 2147483648 = lN ((S + q + 1) % 2147483648) := pk_lRem (a := S + q + 1) (b := 2147483648) (by omega) (by decide) (by decide)
  rw [h1, lN_i]
  unfold aft
  rw [nI_add, nI_1]
  exact (pk_andN (n := S + q + 1) (by omega) 31 (by decide)).symm
def kO (L : Lg) (p : Int64) (i : Nat) : Int32 := if p < 0 then -1 else kth L p i nI
theorem kO_neg {L : Lg} {p : Int64} {i : Nat} (h : p < 0) : kO L p i = -1 := by unfold kO; rw [if_pos h]
theorem kO_none {L : Lg} {p : Int64} {i : Nat} (h : occ (gP L) p (gN L) i = none) : kO L p i = -1 := by
  unfold kO kth
  rw [h]
  split <;> rfl
theorem kO_some {L : Lg} {p : Int64} {i k : Nat} (hp : ¬ p < 0) (h : occ (gP L) p (gN L) i = some k) : kO L p i = nI k := by
  unfold kO
  rw [if_neg hp, kth_some h]
theorem m1_sub {a : Nat} : nI (a + 1) - 1 = nI a := nI_pred a
theorem m1_dec {b : Nat} : nI (b + 1) - 1 + Int32.ofInt (-1) = nI b - 1 := by
  rw [nI_pred]
  exact (Int32.sub_eq_add_neg (nI b) 1).symm
theorem dec1 (k : Nat) : nI (k + 1) + Int32.ofInt (-1) = nI k := pk_m1 k
theorem m1_lt : nI 0 - 1 < 0 := by decide
theorem m1_nlt {a : Nat} (h : a < 2 ^ 31) : ¬ nI (a + 1) - 1 < 0 := by rw [nI_pred]; exact nI_pos h
theorem cnt_dif {f g : Nat → Int64} {p : Int64} {k n : Nat} (h : ∀ q, k ≤ q → f q = g q) (hk : k ≤ n) : cnt f p n + cnt g p k = cnt g p n + cnt f p k := by
  induction n with
  | zero => have : k = 0 := by omega
            subst this; rfl
  | succ n ih =>
    by_cases e : k = n + 1
    · subst e; omega
    · have := ih (by omega)
      simp only [cnt, h n (by omega)]
      omega
theorem ltr_hi {f g : Nat → Int64} {k n : Nat} (hk : k < n) (h : ∀ q, k ≤ q → f q = g q) : ltr f k n = ltr g k n := by
  unfold ltr
  rw [h k (Nat.le_refl k)]
  have h1 := cnt_dif (p := g k) (k := k + 1) (n := n) (fun q hq => h q (by omega)) (by omega)
  have h2 := cnt_mono f (g k) (show k + 1 ≤ n by omega)
  have h3 := cnt_mono g (g k) (show k + 1 ≤ n by omega)
  omega
theorem kno_hi {f g : Nat → Int64} {k n : Nat} (hk : k < n) (h : ∀ q, k ≤ q → f q = g q) : kno f k n ↔ kno g k n := by
  unfold kno
  rw [ltr_hi hk h, h k (Nat.le_refl k)]
/-- how many of the first j rows are the last ones of their producers, of n rows -/
def scn (f : Nat → Int64) (n : Nat) : Nat → Nat
  | 0 => 0
  | j + 1 => scn f n j + (if 0 ≤ f j ∧ ltr f j n = 0 then 1 else 0)
def tcn (f : Nat → Int64) (n : Nat) (p : Int64) : Nat → Nat
  | 0 => 0
  | j + 1 => tcn f n p j + (if 0 ≤ f j ∧ ltr f j n = 0 ∧ f j = p then 1 else 0)
theorem scn_le (f : Nat → Int64) (n j : Nat) : scn f n j ≤ j := by
  induction j with
  | zero => exact Nat.le_refl 0
  | succ j ih => simp only [scn]; split <;> omega
theorem scn_s {f : Nat → Int64} {n : Nat} : ∀ j, j ≤ n → scn f (n + 1) j + tcn f n (f n) j = scn f n j := by
  intro j
  induction j with
  | zero => intro _; rfl
  | succ j ih =>
    intro hj
    have := ih (by omega)
    simp only [scn, tcn]
    by_cases e : f n = f j
    · rw [ltr_h (show j < n by omega) e]
      by_cases c : 0 ≤ f j ∧ ltr f j n = 0
      · rw [if_neg (by omega), if_pos ⟨c.1, c.2, e.symm⟩, if_pos c]; omega
      · rw [if_neg (by omega), if_neg (fun z => c ⟨z.1, z.2.1⟩), if_neg c]; omega
    · rw [ltr_s (show j < n by omega) e]
      rw [if_neg (fun z : 0 ≤ f j ∧ ltr f j n = 0 ∧ f j = f n => e z.2.2.symm)]
      omega
theorem tcn_0 {f : Nat → Int64} {n : Nat} {p : Int64} (h : ∀ k, k < n → 0 ≤ f k → ltr f k n = 0 → f k ≠ p) : ∀ j, j ≤ n → tcn f n p j = 0 := by
  intro j
  induction j with
  | zero => intro _; rfl
  | succ j ih =>
    intro hj
    simp only [tcn, ih (by omega)]
    rw [if_neg (fun z => h j (by omega) z.1 z.2.1 z.2.2)]
theorem tcn_1 {f : Nat → Int64} {n k0 : Nat} {p : Int64} (hp : 0 ≤ p) (h : occ f p n 0 = some k0) : ∀ j, j ≤ n → tcn f n p j = if k0 < j then 1 else 0 := by
  obtain ⟨h1, h2, h3⟩ := occ_spec h
  have hl := occ_ltr h
  intro j
  induction j with
  | zero => intro _; rfl
  | succ j ih =>
    intro hj
    simp only [tcn, ih (by omega)]
    by_cases e : j = k0
    · subst e
      rw [if_neg (show ¬ j < j by omega), if_pos (show 0 ≤ f j ∧ ltr f j n = 0 ∧ f j = p from ⟨by rw [h2]; exact hp, hl, h2⟩), if_pos (show j < j + 1 by omega)]
    · have hn : ¬ (0 ≤ f j ∧ ltr f j n = 0 ∧ f j = p) := by
        intro z
        have a := ltr_occ (f := f) (show j < n by omega)
        rw [z.2.1, z.2.2, h] at a
        exact e (Option.some.inj a).symm
      rw [if_neg hn]
      by_cases c : k0 < j
      · rw [if_pos c, if_pos (by omega)]
      · rw [if_neg c, if_neg (by omega)]
theorem scn_dcnt {f : Nat → Int64} (hf : ∀ k, -1 ≤ f k) : ∀ n, scn f n n = dcnt f n := by
  intro n
  induction n with
  | zero => rfl
  | succ n ih =>
    have h1 := scn_s (f := f) (n := n) n (Nat.le_refl n)
    simp only [scn, dcnt]
    rw [ltr_self]
    have hg := ge_m1 (hf n)
    by_cases c : f n = -1
    · rw [if_neg (fun z => (hg.mp z.1) c), if_neg (fun z => z.1 c)]
      rw [tcn_0 (fun k hk h0 _ e => by rw [e, c] at h0; exact absurd h0 (by decide)) n (Nat.le_refl n)] at h1
      omega
    · rw [if_pos ⟨hg.mpr c, rfl⟩]
      rcases Nat.eq_zero_or_pos (cnt f (f n) n) with z | z
      · rw [if_pos ⟨c, z⟩]
        rw [tcn_0 (fun k hk h0 _ e => by
          have := occ_lt (ltr_occ (f := f) hk)
          rw [e, z] at this
          omega) n (Nat.le_refl n)] at h1
        omega
      · rw [if_neg (by omega)]
        obtain ⟨k0, hk0⟩ := occ_some z
        rw [tcn_1 (hg.mpr c) hk0 n (Nat.le_refl n), if_pos (occ_spec hk0).1] at h1
        omega
theorem n2000 {n : Nat} (h : n ≤ 2000) : nI n = 2000 ↔ 2000 ≤ n := by
  have := nI_eq (a := n) (b := 2000) (by omega) (by decide)
  constructor
  · intro z; have := this.mp z; omega
  · intro z; exact this.mpr (by omega)
theorem row_seq {L : Lg} (h : LogOK L) {k : Nat} (hk : 0 ≤ gP L k) : (∃ S : Nat, S < 2 ^ 31 ∧ gS L k = nI S) ∧ ∃ q : Nat, q ≤ 999 ∧ gL L k = nI q := by
  obtain ⟨h1, h2, h3, h4, h5, h6⟩ := h.2.2 k
  refine ⟨?_, h5⟩
  have := h6 ((ge_m1 h2).mp hk)
  exact nI_of (i32_le.mpr this)
end
section
/-! ProducerBookModel: thrown, isBatch, knownOne, after, judged, come, copy (written by prog/model1.py) -/
set_option maxRecDepth 100000
set_option maxHeartbeats 4000000 in
theorem mX4_thrown (l : Launch) (Y : YT) (h : Nat → Nat) (hh : aD 6 h) (sz : Nat) (L : Lg) (cd : Int32)  : XMet l yX4_thrown (ws_ yX4_thrown cX4_thrown 1 (some .int)) ({ frames := 0, cells := 0, slots := 0, locals := 0 }) (mPre Y h L cd sz [.ref (h 0)]) (xQ (pI cd (mH Y h L cd)) (aA 6 h sz)) 0 0 (aA 6 h sz) := by
  refine XMet.ofW (cc := cX4_thrown) (maxL := 1) (ret := (some .int)) (by decide) rfl ?_
  intro p e s m args below meth c s₁ B hml hno hv
  obtain ⟨rfl, hsz, hP, hYK⟩ := hv
  obtain ⟨⟨n, e0⟩, fB, fP, fX, fS, fL⟩ := L
  have hx := B.exec
  have hb := B.bytes
  have hr := B.returns
  have hlk := B.notSynchronized
  have hts := atoms_spec (ws := ws_ yX4_thrown cX4_thrown 1 (some .int)) B.pre
  have hts : ∀ w ∈ lw_all, w.before _ s = true := fun w h => hts w (List.mem_cons_of_mem _ h)
  have hown : s.vm.findClass RX4 = some m.cls := findClass_of_methodNamed B.named
  subst hsz
  have hK := hYK.1
  have hP0 := hP
  have hS : va_S (aA 6 h s.heap.size) s.heap s.heap [] := va_S.rf
  have hl := lv_entry [.ref (h 0)] (n := 1) (Nat.le_of_ble_eq_true rfl)
  rw [lg_entry_eq]
  generalize (lg_sl [.ref (h 0)] ++ List.replicate (1 - (lg_sl [.ref (h 0)]).length) Slot.unset).toArray = ls at hl ⊢
  have hl : lv_has ls 1 [(0, .ref (h 0))] := hl
  refine lv_aload_n hx hb dX4_thrown_0 rfl (lv_at hl 0 rfl) ?_
  refine va_get (D := Y.1) (ci := 3) (v := .int cd) (C := RX4) (T := TX4) (N := 8) hx hb hts in_X4 hown hK hP 0 rfl rfl 0 (by decide) (hts _ q306) (fun _ h9 => h9) rfl dX4_thrown_1 ?_
  exact xiret hx hb hr hlk hS dX4_thrown_4 (⟨rfl, hP⟩)
set_option maxHeartbeats 4000000 in
theorem mX4_isBatch (l : Launch) (sz : Nat) (p1 : Int64) (e1 s1 l1 : Int32) : XMet l yX4_isBatch (ws_ yX4_isBatch cX4_isBatch 5 (some .boolean)) ({ frames := 0, cells := 0, slots := 0, locals := 0 }) (sPre sz [.long p1, .int e1, .int s1, .int l1]) (xQ (pI (if okB p1 e1 s1 l1 then 1 else 0) (fun _ => True)) (sA sz)) 0 0 (sA sz) := by
  refine XMet.ofW (cc := cX4_isBatch) (maxL := 5) (ret := (some .boolean)) (by decide) rfl ?_
  intro p e s m args below meth c s₁ B hml hno hv
  obtain ⟨rfl, hsz⟩ := hv
  have hx := B.exec
  have hb := B.bytes
  have hr := B.returns
  have hlk := B.notSynchronized
  have hts := atoms_spec (ws := ws_ yX4_isBatch cX4_isBatch 5 (some .boolean)) B.pre
  have hts : ∀ w ∈ lw_all, w.before _ s = true := fun w h => hts w (List.mem_cons_of_mem _ h)
  have hown : s.vm.findClass RX4 = some m.cls := findClass_of_methodNamed B.named
  subst hsz
  have hS : va_S (sA s.heap.size) s.heap s.heap [] := va_S.rf
  have hl := lv_entry [.long p1, .int e1, .int s1, .int l1] (n := 5) (Nat.le_of_ble_eq_true rfl)
  rw [lg_entry_eq]
  generalize (lg_sl [.long p1, .int e1, .int s1, .int l1] ++ List.replicate (5 - (lg_sl [.long p1, .int e1, .int s1, .int l1]).length) Slot.unset).toArray = ls at hl ⊢
  have hl : lv_has ls 5 [(0, .long p1), (2, .int e1), (3, .int s1), (4, .int l1)] := hl
  refine lv_iload hx hb dX4_isBatch_0 (lv_at hl 3 rfl) ?_
  refine lv_if_lt (tgt := 21) hx hb dX4_isBatch_2 (by decide) (fun c_2 => ?_) (fun c_2 => ?_)
  · refine lv_iconst (v := 0) hx hb dX4_isBatch_21 (by decide) ?_
    exact xzret hx hb hr hlk rfl hS dX4_isBatch_22 (⟨ri (if_neg (fun z => by obtain ⟨⟨z1, z2, z3⟩, z4⟩ := z; first | exact absurd c_2 (i32_le.mpr z1) | exact absurd c_10 (i999.mpr z2) | exact absurd z3 c_18 | (rcases z4 with ⟨z5, z6, z7⟩ | ⟨z5, z6, z7, z8⟩ <;> first | exact absurd c_28 z5 | exact absurd z5 c_28 | exact absurd z6 c_33 | exact absurd z7 c_38 | exact absurd c_50 (i32_le.mpr z6) | exact absurd c_57 (i32_le.mpr z7) | exact absurd c_61 (i32_le.mpr z8)))).symm, trivial⟩)
  · refine lv_iload hx hb dX4_isBatch_5 (lv_at hl 3 rfl) ?_
    refine lv_sipush (v := 999) hx hb dX4_isBatch_7 (by decide) ?_
    refine lv_icmp_gt (tgt := 21) hx hb dX4_isBatch_10 (by decide) (fun c_10 => ?_) (fun c_10 => ?_)
    · refine lv_iconst (v := 0) hx hb dX4_isBatch_21 (by decide) ?_
      exact xzret hx hb hr hlk rfl hS dX4_isBatch_22 (⟨ri (if_neg (fun z => by obtain ⟨⟨z1, z2, z3⟩, z4⟩ := z; first | exact absurd c_2 (i32_le.mpr z1) | exact absurd c_10 (i999.mpr z2) | exact absurd z3 c_18 | (rcases z4 with ⟨z5, z6, z7⟩ | ⟨z5, z6, z7, z8⟩ <;> first | exact absurd c_28 z5 | exact absurd z5 c_28 | exact absurd z6 c_33 | exact absurd z7 c_38 | exact absurd c_50 (i32_le.mpr z6) | exact absurd c_57 (i32_le.mpr z7) | exact absurd c_61 (i32_le.mpr z8)))).symm, trivial⟩)
    · refine lv_lload_n hx hb dX4_isBatch_13 rfl (lv_at hl 0 rfl) ?_
      refine lv_ldc2 hx hb hown (hts _ q342) dX4_isBatch_14 ?_
      refine W.lcmp hx hb dX4_isBatch_17 ?_
      refine lv_if_ge (tgt := 23) hx hb dX4_isBatch_18 (by decide) (fun c_18 => ?_) (fun c_18 => ?_)
      · rw [lg_cmp_ge] at c_18
        refine lv_lload_n hx hb dX4_isBatch_23 rfl (lv_at hl 0 rfl) ?_
        refine lv_ldc2 hx hb hown (hts _ q342) dX4_isBatch_24 ?_
        refine W.lcmp hx hb dX4_isBatch_27 ?_
        refine lv_if_ne (tgt := 49) hx hb dX4_isBatch_28 (by decide) (fun c_28 => ?_) (fun c_28 => ?_)
        · rw [lg_cmp_eq] at c_28
          refine lv_iload_n hx hb dX4_isBatch_49 rfl (lv_at hl 1 rfl) ?_
          refine lv_if_lt (tgt := 68) hx hb dX4_isBatch_50 (by decide) (fun c_50 => ?_) (fun c_50 => ?_)
          · refine lv_iconst (v := 0) hx hb dX4_isBatch_68 (by decide) ?_
            exact xzret hx hb hr hlk rfl hS dX4_isBatch_69 (⟨ri (if_neg (fun z => by obtain ⟨⟨z1, z2, z3⟩, z4⟩ := z; first | exact absurd c_2 (i32_le.mpr z1) | exact absurd c_10 (i999.mpr z2) | exact absurd z3 c_18 | (rcases z4 with ⟨z5, z6, z7⟩ | ⟨z5, z6, z7, z8⟩ <;> first | exact absurd c_28 z5 | exact absurd z5 c_28 | exact absurd z6 c_33 | exact absurd z7 c_38 | exact absurd c_50 (i32_le.mpr z6) | exact absurd c_57 (i32_le.mpr z7) | exact absurd c_61 (i32_le.mpr z8)))).symm, trivial⟩)
          · refine lv_iload_n hx hb dX4_isBatch_53 rfl (lv_at hl 1 rfl) ?_
            refine lv_sipush (v := 32767) hx hb dX4_isBatch_54 (by decide) ?_
            refine lv_icmp_gt (tgt := 68) hx hb dX4_isBatch_57 (by decide) (fun c_57 => ?_) (fun c_57 => ?_)
            · refine lv_iconst (v := 0) hx hb dX4_isBatch_68 (by decide) ?_
              exact xzret hx hb hr hlk rfl hS dX4_isBatch_69 (⟨ri (if_neg (fun z => by obtain ⟨⟨z1, z2, z3⟩, z4⟩ := z; first | exact absurd c_2 (i32_le.mpr z1) | exact absurd c_10 (i999.mpr z2) | exact absurd z3 c_18 | (rcases z4 with ⟨z5, z6, z7⟩ | ⟨z5, z6, z7, z8⟩ <;> first | exact absurd c_28 z5 | exact absurd z5 c_28 | exact absurd z6 c_33 | exact absurd z7 c_38 | exact absurd c_50 (i32_le.mpr z6) | exact absurd c_57 (i32_le.mpr z7) | exact absurd c_61 (i32_le.mpr z8)))).symm, trivial⟩)
            · refine lv_iload_n hx hb dX4_isBatch_60 rfl (lv_at hl 2 rfl) ?_
              refine lv_if_lt (tgt := 68) hx hb dX4_isBatch_61 (by decide) (fun c_61 => ?_) (fun c_61 => ?_)
              · refine lv_iconst (v := 0) hx hb dX4_isBatch_68 (by decide) ?_
                exact xzret hx hb hr hlk rfl hS dX4_isBatch_69 (⟨ri (if_neg (fun z => by obtain ⟨⟨z1, z2, z3⟩, z4⟩ := z; first | exact absurd c_2 (i32_le.mpr z1) | exact absurd c_10 (i999.mpr z2) | exact absurd z3 c_18 | (rcases z4 with ⟨z5, z6, z7⟩ | ⟨z5, z6, z7, z8⟩ <;> first | exact absurd c_28 z5 | exact absurd z5 c_28 | exact absurd z6 c_33 | exact absurd z7 c_38 | exact absurd c_50 (i32_le.mpr z6) | exact absurd c_57 (i32_le.mpr z7) | exact absurd c_61 (i32_le.mpr z8)))).symm, trivial⟩)
              · refine lv_iconst (v := 1) hx hb dX4_isBatch_64 (by decide) ?_
                refine lv_goto (tgt := 69) hx hb dX4_isBatch_65 (by decide) ?_
                exact xzret hx hb hr hlk rfl hS dX4_isBatch_69 (⟨ri (if_pos ⟨⟨i32_le.mp c_2, i999.mp c_10, c_18⟩, by first | exact Or.inl ⟨c_28, c_33, c_38⟩ | exact Or.inr ⟨c_28, i32_le.mp c_50, i32_le.mp c_57, i32_le.mp c_61⟩⟩).symm, trivial⟩)
        · rw [lg_cmp_eq] at c_28
          refine lv_iload_n hx hb dX4_isBatch_31 rfl (lv_at hl 1 rfl) ?_
          refine lv_iconst (v := (-1)) hx hb dX4_isBatch_32 (by decide) ?_
          refine lv_icmp_ne (tgt := 45) hx hb dX4_isBatch_33 (by decide) (fun c_33 => ?_) (fun c_33 => ?_)
          · refine lv_iconst (v := 0) hx hb dX4_isBatch_45 (by decide) ?_
            refine lv_goto (tgt := 69) hx hb dX4_isBatch_46 (by decide) ?_
            exact xzret hx hb hr hlk rfl hS dX4_isBatch_69 (⟨ri (if_neg (fun z => by obtain ⟨⟨z1, z2, z3⟩, z4⟩ := z; first | exact absurd c_2 (i32_le.mpr z1) | exact absurd c_10 (i999.mpr z2) | exact absurd z3 c_18 | (rcases z4 with ⟨z5, z6, z7⟩ | ⟨z5, z6, z7, z8⟩ <;> first | exact absurd c_28 z5 | exact absurd z5 c_28 | exact absurd z6 c_33 | exact absurd z7 c_38 | exact absurd c_50 (i32_le.mpr z6) | exact absurd c_57 (i32_le.mpr z7) | exact absurd c_61 (i32_le.mpr z8)))).symm, trivial⟩)
          · refine lv_iload_n hx hb dX4_isBatch_36 rfl (lv_at hl 2 rfl) ?_
            refine lv_iconst (v := (-1)) hx hb dX4_isBatch_37 (by decide) ?_
            refine lv_icmp_ne (tgt := 45) hx hb dX4_isBatch_38 (by decide) (fun c_38 => ?_) (fun c_38 => ?_)
            · refine lv_iconst (v := 0) hx hb dX4_isBatch_45 (by decide) ?_
              refine lv_goto (tgt := 69) hx hb dX4_isBatch_46 (by decide) ?_
              exact xzret hx hb hr hlk rfl hS dX4_isBatch_69 (⟨ri (if_neg (fun z => by obtain ⟨⟨z1, z2, z3⟩, z4⟩ := z; first | exact absurd c_2 (i32_le.mpr z1) | exact absurd c_10 (i999.mpr z2) | exact absurd z3 c_18 | (rcases z4 with ⟨z5, z6, z7⟩ | ⟨z5, z6, z7, z8⟩ <;> first | exact absurd c_28 z5 | exact absurd z5 c_28 | exact absurd z6 c_33 | exact absurd z7 c_38 | exact absurd c_50 (i32_le.mpr z6) | exact absurd c_57 (i32_le.mpr z7) | exact absurd c_61 (i32_le.mpr z8)))).symm, trivial⟩)
            · refine lv_iconst (v := 1) hx hb dX4_isBatch_41 (by decide) ?_
              refine lv_goto (tgt := 69) hx hb dX4_isBatch_42 (by decide) ?_
              exact xzret hx hb hr hlk rfl hS dX4_isBatch_69 (⟨ri (if_pos ⟨⟨i32_le.mp c_2, i999.mp c_10, c_18⟩, by first | exact Or.inl ⟨c_28, c_33, c_38⟩ | exact Or.inr ⟨c_28, i32_le.mp c_50, i32_le.mp c_57, i32_le.mp c_61⟩⟩).symm, trivial⟩)
      · rw [lg_cmp_ge] at c_18
        refine lv_iconst (v := 0) hx hb dX4_isBatch_21 (by decide) ?_
        exact xzret hx hb hr hlk rfl hS dX4_isBatch_22 (⟨ri (if_neg (fun z => by obtain ⟨⟨z1, z2, z3⟩, z4⟩ := z; first | exact absurd c_2 (i32_le.mpr z1) | exact absurd c_10 (i999.mpr z2) | exact absurd z3 c_18 | (rcases z4 with ⟨z5, z6, z7⟩ | ⟨z5, z6, z7, z8⟩ <;> first | exact absurd c_28 z5 | exact absurd z5 c_28 | exact absurd z6 c_33 | exact absurd z7 c_38 | exact absurd c_50 (i32_le.mpr z6) | exact absurd c_57 (i32_le.mpr z7) | exact absurd c_61 (i32_le.mpr z8)))).symm, trivial⟩)
set_option maxHeartbeats 4000000 in
theorem mX4_after (l : Launch) (sz : Nat) (S q : Nat) (hS1 : S < 2 ^ 31) (hq : q ≤ 999) : XMet l yX4_after (ws_ yX4_after cX4_after 4 (some .int)) ({ frames := 0, cells := 0, slots := 0, locals := 0 }) (sPre sz [.int (nI S), .int (nI q)]) (xQ (pI (aft (nI S) (nI q)) (fun _ => True)) (sA sz)) 0 0 (sA sz) := by
  refine XMet.ofW (cc := cX4_after) (maxL := 4) (ret := (some .int)) (by decide) rfl ?_
  intro p e s m args below meth c s₁ B hml hno hv
  obtain ⟨rfl, hsz⟩ := hv
  have hx := B.exec
  have hb := B.bytes
  have hr := B.returns
  have hlk := B.notSynchronized
  have hts := atoms_spec (ws := ws_ yX4_after cX4_after 4 (some .int)) B.pre
  have hts : ∀ w ∈ lw_all, w.before _ s = true := fun w h => hts w (List.mem_cons_of_mem _ h)
  have hown : s.vm.findClass RX4 = some m.cls := findClass_of_methodNamed B.named
  subst hsz
  have hS : va_S (sA s.heap.size) s.heap s.heap [] := va_S.rf
  have hl := lv_entry [.int (nI S), .int (nI q)] (n := 4) (Nat.le_of_ble_eq_true rfl)
  rw [lg_entry_eq]
  generalize (lg_sl [.int (nI S), .int (nI q)] ++ List.replicate (4 - (lg_sl [.int (nI S), .int (nI q)]).length) Slot.unset).toArray = ls at hl ⊢
  have hl : lv_has ls 4 [(0, .int (nI S)), (1, .int (nI q))] := hl
  refine lv_iload_n hx hb dX4_after_0 rfl (lv_at hl 0 rfl) ?_
  refine lv_i2l (v := (nI S).toInt64) hx hb dX4_after_1 rfl ?_
  refine lv_iload_n hx hb dX4_after_2 rfl (lv_at hl 1 rfl) ?_
  refine lv_i2l (v := (nI q).toInt64) hx hb dX4_after_3 rfl ?_
  refine lv_ladd hx hb dX4_after_4 ?_
  refine lv_lconst (v := 1) hx hb dX4_after_5 (by decide) ?_
  refine lv_ladd hx hb dX4_after_6 ?_
  refine lv_lstore_n (lv' := [(2, .long ((((nI S).toInt64) + ((nI q).toInt64)) + 1)), (0, .int (nI S)), (1, .int (nI q))]) hx hb dX4_after_7 rfl hl (by decide) rfl (fun ls hl => ?_)
  refine lv_lload_n hx hb dX4_after_8 rfl (lv_at hl 0 rfl) ?_
  refine lv_ldc2 hx hb hown (hts _ q354) dX4_after_9 ?_
  refine lv_lrem hx hb dX4_after_12 (by decide) ?_
  refine lv_l2i (v := (((((nI S).toInt64) + ((nI q).toInt64)) + 1) - ((((nI S).toInt64) + ((nI q).toInt64)) + 1) / 2147483648 * 2147483648).toInt32) hx hb dX4_after_13 rfl ?_
  exact xiret hx hb hr hlk hS dX4_after_14 (⟨ri (aft_long hS1 hq), trivial⟩)
set_option maxHeartbeats 4000000 in
theorem mX4_knownOne (l : Launch) (Y : YT) (h : Nat → Nat) (hh : aD 6 h) (sz : Nat) (L : Lg) (cd : Int32) (p1 : Int64) (i : Nat) (r1 : Int32) (hi : i < 5) (hn : gN L ≤ 2000) (hr1 : kO L p1 i = r1) : XMet l yX4_knownOne (ws_ yX4_knownOne cX4_knownOne 6 (some .int)) ({ frames := 0, cells := 0, slots := 0, locals := 0 }) (mPre Y h L cd sz [.ref (h 0), .long p1, .int (nI i)]) (xQ (pI r1 (mH Y h L cd)) (aA 6 h sz)) 0 0 (aA 6 h sz) := by
  refine XMet.ofW (cc := cX4_knownOne) (maxL := 6) (ret := (some .int)) (by decide) rfl ?_
  intro p e s m args below meth c s₁ B hml hno hv
  obtain ⟨rfl, hsz, hP, hYK⟩ := hv
  obtain ⟨⟨n, e0⟩, fB, fP, fX, fS, fL⟩ := L
  have hx := B.exec
  have hb := B.bytes
  have hr := B.returns
  have hlk := B.notSynchronized
  have hts := atoms_spec (ws := ws_ yX4_knownOne cX4_knownOne 6 (some .int)) B.pre
  have hts : ∀ w ∈ lw_all, w.before _ s = true := fun w h => hts w (List.mem_cons_of_mem _ h)
  have hown : s.vm.findClass RX4 = some m.cls := findClass_of_methodNamed B.named
  subst hsz
  have hK := hYK.1
  have hP0 := hP
  have hS : va_S (aA 6 h s.heap.size) s.heap s.heap [] := va_S.rf
  have hl := lv_entry [.ref (h 0), .long p1, .int (nI i)] (n := 6) (Nat.le_of_ble_eq_true rfl)
  rw [lg_entry_eq]
  generalize (lg_sl [.ref (h 0), .long p1, .int (nI i)] ++ List.replicate (6 - (lg_sl [.ref (h 0), .long p1, .int (nI i)]).length) Slot.unset).toArray = ls at hl ⊢
  have hl : lv_has ls 6 [(0, .ref (h 0)), (1, .long p1), (3, .int (nI i))] := hl
  have hn : n ≤ 2000 := hn
  refine lv_iload_n hx hb dX4_knownOne_0 rfl (lv_at hl 2 rfl) ?_
  refine lv_istore (lv' := [(4, .int (nI i)), (0, .ref (h 0)), (1, .long p1), (3, .int (nI i))]) hx hb dX4_knownOne_1 hl (by decide) rfl (fun ls hl => ?_)
  refine lv_aload_n hx hb dX4_knownOne_3 rfl (lv_at hl 1 rfl) ?_
  refine va_get (D := Y.1) (ci := 3) (v := .int (nI n)) (C := RX4) (T := TX4) (N := 8) hx hb hts in_X4 hown hK hP 0 rfl rfl 1 (by decide) (hts _ q307) (fun _ h9 => h9) rfl dX4_knownOne_4 ?_
  refine lv_iconst (v := 1) hx hb dX4_knownOne_7 (by decide) ?_
  refine lv_isub hx hb dX4_knownOne_8 ?_
  refine lv_istore (lv' := [(5, .int ((nI n) - 1)), (4, .int (nI i)), (0, .ref (h 0)), (1, .long p1), (3, .int (nI i))]) hx hb dX4_knownOne_9 hl (by decide) rfl (fun ls hl => ?_)
  have loop : ∀ (a r : Nat), r < 5 → a ≤ n → occ fP p1 a r = occ fP p1 n i → ∀ (H : Heap) (locs : List Loc), mH Y h ((n, e0), fB, fP, fX, fS, fL) cd H → va_S (aA 6 h s.heap.size) s.heap H locs → ∀ (ls : Array Slot), lv_has ls 6 [(5, .int (nI a - 1)), (4, .int (nI r)), (0, .ref (h 0)), (1, .long p1), (3, .int (nI i))] → W p l e (headSpec (ws_ yX4_knownOne cX4_knownOne 6 (some .int)) ({ frames := 0, cells := 0, slots := 0, locals := 0 })).room s m ([.ref (h 0), .long p1, .int (nI i)] : List Value).toArray below meth c H locs 0 0 (XMQ below (xQ (pI r1 (mH Y h ((n, e0), fB, fP, fX, fS, fL) cd)) (aA 6 h s.heap.size)) ([.ref (h 0), .long p1, .int (nI i)] : List Value).toArray s 0 0 (aA 6 h s.heap.size)) (F0 m 11 ls []) := by
    intro a
    induction a with
    | zero =>
      intro r hr5 ha ho H locs hP hS ls hl
      refine lv_iload hx hb dX4_knownOne_11 (lv_at hl 0 rfl) ?_
      refine lv_if_lt (tgt := 56) hx hb dX4_knownOne_13 (by decide) (fun c_13 => ?_) (fun c_13 => ?_)
      · refine lv_iconst (v := (-1)) hx hb dX4_knownOne_56 (by decide) ?_
        exact xiret hx hb hr hlk hS dX4_knownOne_57 (⟨ri ((kO_none (L := ((n, e0), fB, fP, fX, fS, fL)) (show occ fP p1 n i = none from ho.symm)).symm.trans hr1), hP⟩)
      · exact absurd (m1_lt) c_13
    | succ b1 ih =>
      intro r hr5 ha ho H locs hP hS ls hl
      refine lv_iload hx hb dX4_knownOne_11 (lv_at hl 0 rfl) ?_
      refine lv_if_lt (tgt := 56) hx hb dX4_knownOne_13 (by decide) (fun c_13 => ?_) (fun c_13 => ?_)
      · exact absurd c_13 (m1_nlt (by omega))
      · refine lv_iload_n hx hb dX4_knownOne_16 rfl (lv_at hl 4 rfl) ?_
        refine lv_iconst (v := 5) hx hb dX4_knownOne_17 (by decide) ?_
        refine lv_icmp_ge (tgt := 56) hx hb dX4_knownOne_18 (by decide) (fun c_18 => ?_) (fun c_18 => ?_)
        · exact absurd c_18 (nI_ge (b := 5) hi (by decide))
        · refine lv_lload_n hx hb dX4_knownOne_21 rfl (lv_at hl 3 rfl) ?_
          refine lv_lconst (v := 0) hx hb dX4_knownOne_22 (by decide) ?_
          refine W.lcmp hx hb dX4_knownOne_23 ?_
          refine lv_if_lt (tgt := 56) hx hb dX4_knownOne_24 (by decide) (fun c_24 => ?_) (fun c_24 => ?_)
          · rw [lg_cmp_lt] at c_24
            refine lv_iconst (v := (-1)) hx hb dX4_knownOne_56 (by decide) ?_
            exact xiret hx hb hr hlk hS dX4_knownOne_57 (⟨ri ((kO_neg (L := ((n, e0), fB, fP, fX, fS, fL)) c_24).symm.trans hr1), hP⟩)
          · rw [lg_cmp_lt] at c_24
            refine lv_aload_n hx hb dX4_knownOne_27 rfl (lv_at hl 2 rfl) ?_
            refine va_get (D := Y.1) (ci := 3) (v := .ref (h 2)) (C := RX4) (T := TX4) (N := 8) hx hb hts in_X4 hown hK hP 0 rfl rfl 4 (by decide) (hts _ q310) (fun _ h9 => h9) rfl dX4_knownOne_28 ?_
            refine lv_iload hx hb dX4_knownOne_31 (lv_at hl 0 rfl) ?_
            refine xi_eq (nI b1) (nI_pred b1) ?_
            refine y_lald hx hb hK hP 2 1 fP rfl rfl b1 (by omega) (by decide) dX4_knownOne_33 ?_
            refine lv_lload_n hx hb dX4_knownOne_34 rfl (lv_at hl 3 rfl) ?_
            refine W.lcmp hx hb dX4_knownOne_35 ?_
            refine lv_if_ne (tgt := 50) hx hb dX4_knownOne_36 (by decide) (fun c_36 => ?_) (fun c_36 => ?_)
            · rw [lg_cmp_eq] at c_36
              rw [occ_s _ _ _ _ c_36] at ho
              refine lv_iinc (v := nI b1 - 1) (lv' := [(5, .int (nI b1 - 1)), (4, .int (nI r)), (0, .ref (h 0)), (1, .long p1), (3, .int (nI i))]) hx hb dX4_knownOne_50 hl (k := 0) rfl (m1_dec) (by decide) rfl (fun ls hl => ?_)
              refine lv_goto (tgt := 11) hx hb dX4_knownOne_53 (by decide) ?_
              exact ih r (by omega) (by omega) (ho) _ _ hP hS ls (lv_sub hl [0, 1, 2, 3, 4] rfl)
            · rw [lg_cmp_eq] at c_36
              refine lv_iload hx hb dX4_knownOne_39 (lv_at hl 1 rfl) ?_
              refine lv_if_ne (tgt := 47) hx hb dX4_knownOne_41 (by decide) (fun c_41 => ?_) (fun c_41 => ?_)
              · obtain ⟨r2, rfl⟩ : ∃ r2, r = r2 + 1 := ⟨r - 1, by have : r ≠ 0 := fun z => c_41 (by rw [z]; rfl); omega⟩
                rw [occ_hs _ _ _ _ c_36] at ho
                refine lv_iinc (v := nI r2) (lv' := [(4, .int (nI r2)), (5, .int (nI (b1 + 1) - 1)), (0, .ref (h 0)), (1, .long p1), (3, .int (nI i))]) hx hb dX4_knownOne_47 hl (k := 1) rfl (dec1 r2) (by decide) rfl (fun ls hl => ?_)
                refine lv_iinc (v := nI b1 - 1) (lv' := [(5, .int (nI b1 - 1)), (4, .int (nI r2)), (0, .ref (h 0)), (1, .long p1), (3, .int (nI i))]) hx hb dX4_knownOne_50 hl (k := 1) rfl (m1_dec) (by decide) rfl (fun ls hl => ?_)
                refine lv_goto (tgt := 11) hx hb dX4_knownOne_53 (by decide) ?_
                exact ih r2 (by omega) (by omega) (ho) _ _ hP hS ls (lv_sub hl [0, 1, 2, 3, 4] rfl)
              · have hr0 : r = 0 := (nI_eq (a := r) (b := 0) (by omega) (by decide)).mp c_41
                subst hr0
                rw [occ_h0 _ _ _ c_36] at ho
                refine lv_iload hx hb dX4_knownOne_44 (lv_at hl 0 rfl) ?_
                refine xi_eq (nI b1) (nI_pred b1) ?_
                exact xiret hx hb hr hlk hS dX4_knownOne_46 (⟨ri ((kO_some (L := ((n, e0), fB, fP, fX, fS, fL)) c_24 (show occ fP p1 n i = some b1 from ho.symm)).symm.trans hr1), hP⟩)
  exact loop n i hi (Nat.le_refl n) rfl _ _ hP hS ls (lv_sub hl [0, 1, 2, 3, 4] rfl)
set_option maxHeartbeats 4000000 in
theorem mX4_judged (l : Launch) (Y : YT) (h : Nat → Nat) (hh : aD 6 h) (sz : Nat) (L : Lg) (cd : Int32) (p1 : Int64) (e1 s1 l1 : Int32) (hlg : LogOK L) : XMet l yX4_judged (ws_ yX4_judged cX4_judged 9 (some .int)) ({ frames := 1, cells := 0, slots := 0, locals := 25 }) (mPre Y h L cd sz [.ref (h 0), .long p1, .int e1, .int s1, .int l1]) (xQ (pI (judge L p1 e1 s1 l1) (mH Y h L cd)) (aA 6 h sz)) 0 0 (aA 6 h sz) := by
  refine XMet.ofW (cc := cX4_judged) (maxL := 9) (ret := (some .int)) (by decide) rfl ?_
  intro p e s m args below meth c s₁ B hml hno hv
  obtain ⟨rfl, hsz, hP, hYK⟩ := hv
  obtain ⟨⟨n, e0⟩, fB, fP, fX, fS, fL⟩ := L
  have hx := B.exec
  have hb := B.bytes
  have hr := B.returns
  have hlk := B.notSynchronized
  have hts := atoms_spec (ws := ws_ yX4_judged cX4_judged 9 (some .int)) B.pre
  have hts : ∀ w ∈ lw_all, w.before _ s = true := fun w h => hts w (List.mem_cons_of_mem _ h)
  have hown : s.vm.findClass RX4 = some m.cls := findClass_of_methodNamed B.named
  subst hsz
  have hK := hYK.1
  have hP0 := hP
  have hS : va_S (aA 6 h s.heap.size) s.heap s.heap [] := va_S.rf
  have hl := lv_entry [.ref (h 0), .long p1, .int e1, .int s1, .int l1] (n := 9) (Nat.le_of_ble_eq_true rfl)
  rw [lg_entry_eq]
  generalize (lg_sl [.ref (h 0), .long p1, .int e1, .int s1, .int l1] ++ List.replicate (9 - (lg_sl [.ref (h 0), .long p1, .int e1, .int s1, .int l1]).length) Slot.unset).toArray = ls at hl ⊢
  have hl : lv_has ls 9 [(0, .ref (h 0)), (1, .long p1), (3, .int e1), (4, .int s1), (5, .int l1)] := hl
  refine lv_aload_n hx hb dX4_judged_0 rfl (lv_at hl 0 rfl) ?_
  refine lv_lload_n hx hb dX4_judged_1 rfl (lv_at hl 1 rfl) ?_
  refine lv_iconst (v := 0) hx hb dX4_judged_2 (by decide) ?_
  refine xi_eq (nI 0) (nI_0.symm) ?_
  by_cases hp0 : p1 < 0
  · refine xgoI (xrunV (As := [.long p1, .int (nI 0)]) (rest := []) ⟨hx, hb, hml, hown, hts⟩ (mX4_knownOne l Y h hh s.heap.size _ _ p1 0 (-1) (by decide) hlg.1 (kO_neg (L := ((n, e0), fB, fP, fX, fS, fL)) hp0)) (cwV 2 hts (lw_V q347 q349 qs5 q14 q350) rfl rfl rfl (by decide +kernel) ⟨Nat.le_of_ble_eq_true rfl, Nat.le_of_ble_eq_true rfl⟩) ⟨mPre_bl, va_recv hK hP (ci := 3) (q0 := 0) rfl rfl, fun U hU hW => ⟨rfl, by rw [hU], by rw [hU]; exact hP, hYK.moved hW.alike⟩⟩ rfl rfl hl.1 rfl (lv_room (Nat.le_of_ble_eq_true rfl)) dX4_judged_3 ⟨Nat.le_of_ble_eq_true rfl, Nat.le_of_ble_eq_true rfl⟩) hS (fun q _ h => aA.le hS.1 h) (fun q h => aA.le hS.1 h) (fun H locs hP hz hk hS => ?_)
    refine lv_istore (lv' := [(6, .int (-1)), (0, .ref (h 0)), (1, .long p1), (3, .int e1), (4, .int s1), (5, .int l1)]) hx hb dX4_judged_6 hl (by decide) rfl (fun ls hl => ?_)
    refine lv_iload hx hb dX4_judged_8 (lv_at hl 0 rfl) ?_
    refine lv_if_ge (tgt := 15) hx hb dX4_judged_10 (by decide) (fun c_10 => ?_) (fun c_10 => ?_)
    · exact absurd c_10 (by decide)
    · refine lv_iconst (v := (-1)) hx hb dX4_judged_13 (by decide) ?_
      exact xiret hx hb hr hlk hS dX4_judged_14 (⟨ri (judge_neg hp0).symm, hP⟩)
  · rcases hk0 : occ fP p1 n 0 with _ | k0
    · refine xgoI (xrunV (As := [.long p1, .int (nI 0)]) (rest := []) ⟨hx, hb, hml, hown, hts⟩ (mX4_knownOne l Y h hh s.heap.size _ _ p1 0 (-1) (by decide) hlg.1 (kO_none (L := ((n, e0), fB, fP, fX, fS, fL)) hk0)) (cwV 2 hts (lw_V q347 q349 qs5 q14 q350) rfl rfl rfl (by decide +kernel) ⟨Nat.le_of_ble_eq_true rfl, Nat.le_of_ble_eq_true rfl⟩) ⟨mPre_bl, va_recv hK hP (ci := 3) (q0 := 0) rfl rfl, fun U hU hW => ⟨rfl, by rw [hU], by rw [hU]; exact hP, hYK.moved hW.alike⟩⟩ rfl rfl hl.1 rfl (lv_room (Nat.le_of_ble_eq_true rfl)) dX4_judged_3 ⟨Nat.le_of_ble_eq_true rfl, Nat.le_of_ble_eq_true rfl⟩) hS (fun q _ h => aA.le hS.1 h) (fun q h => aA.le hS.1 h) (fun H locs hP hz hk hS => ?_)
      refine lv_istore (lv' := [(6, .int (-1)), (0, .ref (h 0)), (1, .long p1), (3, .int e1), (4, .int s1), (5, .int l1)]) hx hb dX4_judged_6 hl (by decide) rfl (fun ls hl => ?_)
      refine lv_iload hx hb dX4_judged_8 (lv_at hl 0 rfl) ?_
      refine lv_if_ge (tgt := 15) hx hb dX4_judged_10 (by decide) (fun c_10 => ?_) (fun c_10 => ?_)
      · exact absurd c_10 (by decide)
      · refine lv_iconst (v := (-1)) hx hb dX4_judged_13 (by decide) ?_
        exact xiret hx hb hr hlk hS dX4_judged_14 (⟨ri (judge_none (L := ((n, e0), fB, fP, fX, fS, fL)) hk0).symm, hP⟩)
    · have hn : n ≤ 2000 := hlg.1
      obtain ⟨hk0n, hk0p, -⟩ := occ_spec hk0
      obtain ⟨⟨S0, hS0, eS0⟩, q0, hq0, eq0⟩ := row_seq (L := ((n, e0), fB, fP, fX, fS, fL)) hlg (k := k0) (show 0 ≤ fP k0 by rw [hk0p]; exact not_lt64.mp hp0)
      refine xgoI (xrunV (As := [.long p1, .int (nI 0)]) (rest := []) ⟨hx, hb, hml, hown, hts⟩ (mX4_knownOne l Y h hh s.heap.size _ _ p1 0 (nI k0) (by decide) hlg.1 (kO_some (L := ((n, e0), fB, fP, fX, fS, fL)) hp0 hk0)) (cwV 2 hts (lw_V q347 q349 qs5 q14 q350) rfl rfl rfl (by decide +kernel) ⟨Nat.le_of_ble_eq_true rfl, Nat.le_of_ble_eq_true rfl⟩) ⟨mPre_bl, va_recv hK hP (ci := 3) (q0 := 0) rfl rfl, fun U hU hW => ⟨rfl, by rw [hU], by rw [hU]; exact hP, hYK.moved hW.alike⟩⟩ rfl rfl hl.1 rfl (lv_room (Nat.le_of_ble_eq_true rfl)) dX4_judged_3 ⟨Nat.le_of_ble_eq_true rfl, Nat.le_of_ble_eq_true rfl⟩) hS (fun q _ h => aA.le hS.1 h) (fun q h => aA.le hS.1 h) (fun H locs hP hz hk hS => ?_)
      refine lv_istore (lv' := [(6, .int (nI k0)), (0, .ref (h 0)), (1, .long p1), (3, .int e1), (4, .int s1), (5, .int l1)]) hx hb dX4_judged_6 hl (by decide) rfl (fun ls hl => ?_)
      refine lv_iload hx hb dX4_judged_8 (lv_at hl 0 rfl) ?_
      refine lv_if_ge (tgt := 15) hx hb dX4_judged_10 (by decide) (fun c_10 => ?_) (fun c_10 => ?_)
      · refine lv_iload_n hx hb dX4_judged_15 rfl (lv_at hl 3 rfl) ?_
        refine lv_aload_n hx hb dX4_judged_16 rfl (lv_at hl 1 rfl) ?_
        refine va_get (D := Y.1) (ci := 3) (v := .ref (h 3)) (C := RX4) (T := TX4) (N := 8) hx hb hts in_X4 hown hK hP 0 rfl rfl 5 (by decide) (hts _ q311) (fun _ h9 => h9) rfl dX4_judged_17 ?_
        refine lv_iload hx hb dX4_judged_20 (lv_at hl 0 rfl) ?_
        refine y_iald hx hb hK hP 3 0 fX rfl rfl k0 (by omega) (by decide) dX4_judged_22 ?_
        refine lv_icmp_ge (tgt := 29) hx hb dX4_judged_23 (by decide) (fun c_23 => ?_) (fun c_23 => ?_)
        · refine lv_iconst (v := 0) hx hb dX4_judged_29 (by decide) ?_
          refine xi_eq (nI 0) (nI_0.symm) ?_
          refine lv_istore (lv' := [(7, .int (nI 0)), (6, .int (nI k0)), (0, .ref (h 0)), (1, .long p1), (3, .int e1), (4, .int s1), (5, .int l1)]) hx hb dX4_judged_30 hl (by decide) rfl (fun ls hl => ?_)
          have loop : ∀ (k i : Nat), i + k = 5 → dup ((n, e0), fB, fP, fX, fS, fL) p1 e1 s1 l1 5 = dup ((n, e0), fB, fP, fX, fS, fL) p1 e1 s1 l1 (5 - i) → ∀ (H : Heap) (locs : List Loc), mH Y h ((n, e0), fB, fP, fX, fS, fL) cd H → va_S (aA 6 h s.heap.size) s.heap H locs → ∀ (ls : Array Slot), lv_has ls 9 [(7, .int (nI i)), (6, .int (nI k0)), (0, .ref (h 0)), (1, .long p1), (3, .int e1), (4, .int s1), (5, .int l1)] → W p l e (headSpec (ws_ yX4_judged cX4_judged 9 (some .int)) ({ frames := 1, cells := 0, slots := 0, locals := 25 })).room s m ([.ref (h 0), .long p1, .int e1, .int s1, .int l1] : List Value).toArray below meth c H locs 0 0 (XMQ below (xQ (pI (judge ((n, e0), fB, fP, fX, fS, fL) p1 e1 s1 l1) (mH Y h ((n, e0), fB, fP, fX, fS, fL) cd)) (aA 6 h s.heap.size)) ([.ref (h 0), .long p1, .int e1, .int s1, .int l1] : List Value).toArray s 0 0 (aA 6 h s.heap.size)) (F0 m 32 ls []) := by
            intro k
            induction k with
            | zero =>
              intro i hi hd H locs hP hS ls hl
              refine lv_iload hx hb dX4_judged_32 (lv_at hl 0 rfl) ?_
              refine lv_iconst (v := 5) hx hb dX4_judged_34 (by decide) ?_
              refine lv_icmp_ge (tgt := 101) hx hb dX4_judged_35 (by decide) (fun c_35 => ?_) (fun c_35 => ?_)
              · have hdn : dup ((n, e0), fB, fP, fX, fS, fL) p1 e1 s1 l1 5 = none := by rw [hd, show 5 - i = 0 by omega]; rfl
                refine lv_iload_n hx hb dX4_judged_101 rfl (lv_at hl 4 rfl) ?_
                refine lv_aload_n hx hb dX4_judged_102 rfl (lv_at hl 2 rfl) ?_
                refine va_get (D := Y.1) (ci := 3) (v := .ref (h 3)) (C := RX4) (T := TX4) (N := 8) hx hb hts in_X4 hown hK hP 0 rfl rfl 5 (by decide) (hts _ q311) (fun _ h9 => h9) rfl dX4_judged_103 ?_
                refine lv_iload hx hb dX4_judged_106 (lv_at hl 1 rfl) ?_
                refine y_iald hx hb hK hP 3 0 fX rfl rfl k0 (by omega) (by decide) dX4_judged_108 ?_
                refine lv_icmp_le (tgt := 116) hx hb dX4_judged_109 (by decide) (fun c_109 => ?_) (fun c_109 => ?_)
                · refine lv_aload_n hx hb dX4_judged_116 rfl (lv_at hl 2 rfl) ?_
                  refine va_get (D := Y.1) (ci := 3) (v := .ref (h 4)) (C := RX4) (T := TX4) (N := 8) hx hb hts in_X4 hown hK hP 0 rfl rfl 6 (by decide) (hts _ q312) (fun _ h9 => h9) rfl dX4_judged_117 ?_
                  refine lv_iload hx hb dX4_judged_120 (lv_at hl 1 rfl) ?_
                  refine y_iald hx hb hK hP 4 0 fS rfl rfl k0 (by omega) (by decide) dX4_judged_122 ?_
                  refine xi_eq (nI S0) (eS0) ?_
                  refine lv_aload_n hx hb dX4_judged_123 rfl (lv_at hl 2 rfl) ?_
                  refine va_get (D := Y.1) (ci := 3) (v := .ref (h 5)) (C := RX4) (T := TX4) (N := 8) hx hb hts in_X4 hown hK hP 0 rfl rfl 7 (by decide) (hts _ q313) (fun _ h9 => h9) rfl dX4_judged_124 ?_
                  refine lv_iload hx hb dX4_judged_127 (lv_at hl 1 rfl) ?_
                  refine y_iald hx hb hK hP 5 0 fL rfl rfl k0 (by omega) (by decide) dX4_judged_129 ?_
                  refine xi_eq (nI q0) (eq0) ?_
                  refine xgoI (xrunS (As := [.int (nI S0), .int (nI q0)]) (rest := []) ⟨hx, hb, hml, hown, hts⟩ (mX4_after l H.size S0 q0 hS0 hq0) (va_cwS 2 hts (lw_S q351 q352 q14 q353) rfl rfl rfl (by decide +kernel) ⟨Nat.le_of_ble_eq_true rfl, Nat.le_of_ble_eq_true rfl⟩) ⟨sPre_bl, fun U hU hW => ⟨rfl, congrArg Array.size hU⟩⟩ rfl rfl hl.1 rfl (lv_room (Nat.le_of_ble_eq_true rfl)) dX4_judged_130 ⟨Nat.le_of_ble_eq_true rfl, Nat.le_of_ble_eq_true rfl⟩) hS (fun q _ h => Or.inr (Nat.le_trans hS.1 h)) (fun q h => Or.inr (Nat.le_trans hS.1 h)) (fun H locs _ hz hk hS => ?_)
                  have hP := sA_keep hP hk
                  refine xi_eq (aft (fS k0) (fL k0)) (by rw [show fS k0 = nI S0 from eS0, show fL k0 = nI q0 from eq0]) ?_
                  refine lv_istore (lv' := [(7, .int (aft (fS k0) (fL k0))), (6, .int (nI k0)), (0, .ref (h 0)), (1, .long p1), (3, .int e1), (4, .int s1), (5, .int l1)]) hx hb dX4_judged_133 hl (by decide) rfl (fun ls hl => ?_)
                  refine lv_iload hx hb dX4_judged_135 (lv_at hl 5 rfl) ?_
                  refine lv_iload hx hb dX4_judged_137 (lv_at hl 0 rfl) ?_
                  refine lv_icmp_ne (tgt := 146) hx hb dX4_judged_139 (by decide) (fun c_139 => ?_) (fun c_139 => ?_)
                  · refine lv_bipush (v := (-7)) hx hb dX4_judged_146 (by decide) ?_
                    exact xiret hx hb hr hlk hS dX4_judged_148 (⟨ri (by rw [judge_due (L := ((n, e0), fB, fP, fX, fS, fL)) hp0 hk0 (i32_le.mpr c_23) hdn, if_neg (show ¬ fX k0 < e1 from i32_le.mpr c_109), if_neg c_139]), hP⟩)
                  · refine lv_iconst (v := (-1)) hx hb dX4_judged_142 (by decide) ?_
                    refine lv_goto (tgt := 148) hx hb dX4_judged_143 (by decide) ?_
                    exact xiret hx hb hr hlk hS dX4_judged_148 (⟨ri (by rw [judge_due (L := ((n, e0), fB, fP, fX, fS, fL)) hp0 hk0 (i32_le.mpr c_23) hdn, if_neg (show ¬ fX k0 < e1 from i32_le.mpr c_109), if_pos c_139]), hP⟩)
                · refine lv_iconst (v := 0) hx hb dX4_judged_112 (by decide) ?_
                  refine lv_goto (tgt := 133) hx hb dX4_judged_113 (by decide) ?_
                  refine lv_istore (lv' := [(7, .int 0), (6, .int (nI k0)), (0, .ref (h 0)), (1, .long p1), (3, .int e1), (4, .int s1), (5, .int l1)]) hx hb dX4_judged_133 hl (by decide) rfl (fun ls hl => ?_)
                  refine lv_iload hx hb dX4_judged_135 (lv_at hl 5 rfl) ?_
                  refine lv_iload hx hb dX4_judged_137 (lv_at hl 0 rfl) ?_
                  refine lv_icmp_ne (tgt := 146) hx hb dX4_judged_139 (by decide) (fun c_139 => ?_) (fun c_139 => ?_)
                  · refine lv_bipush (v := (-7)) hx hb dX4_judged_146 (by decide) ?_
                    exact xiret hx hb hr hlk hS dX4_judged_148 (⟨ri (by rw [judge_due (L := ((n, e0), fB, fP, fX, fS, fL)) hp0 hk0 (i32_le.mpr c_23) hdn, if_pos (show fX k0 < e1 from i32_lt.mp c_109), if_neg c_139]), hP⟩)
                  · refine lv_iconst (v := (-1)) hx hb dX4_judged_142 (by decide) ?_
                    refine lv_goto (tgt := 148) hx hb dX4_judged_143 (by decide) ?_
                    exact xiret hx hb hr hlk hS dX4_judged_148 (⟨ri (by rw [judge_due (L := ((n, e0), fB, fP, fX, fS, fL)) hp0 hk0 (i32_le.mpr c_23) hdn, if_pos (show fX k0 < e1 from i32_lt.mp c_109), if_pos c_139]), hP⟩)
              · exact absurd ((nI_le (a := 5) (by omega) (by omega) : (5 : Int32) ≤ nI i)) c_35
            | succ k ih =>
              intro i hi hd H locs hP hS ls hl
              refine lv_iload hx hb dX4_judged_32 (lv_at hl 0 rfl) ?_
              refine lv_iconst (v := 5) hx hb dX4_judged_34 (by decide) ?_
              refine lv_icmp_ge (tgt := 101) hx hb dX4_judged_35 (by decide) (fun c_35 => ?_) (fun c_35 => ?_)
              · exact absurd c_35 (nI_ge (b := 5) (by omega) (by decide))
              · refine lv_aload_n hx hb dX4_judged_38 rfl (lv_at hl 2 rfl) ?_
                refine lv_lload_n hx hb dX4_judged_39 rfl (lv_at hl 3 rfl) ?_
                refine lv_iload hx hb dX4_judged_40 (lv_at hl 0 rfl) ?_
                rcases hoc : occ fP p1 n i with _ | k1
                · refine xgoI (xrunV (As := [.long p1, .int (nI i)]) (rest := []) ⟨hx, hb, hml, hown, hts⟩ (mX4_knownOne l Y h hh H.size _ _ p1 i (-1) (by omega) hlg.1 (kO_none (L := ((n, e0), fB, fP, fX, fS, fL)) hoc)) (cwV 2 hts (lw_V q347 q349 qs5 q14 q350) rfl rfl rfl (by decide +kernel) ⟨Nat.le_of_ble_eq_true rfl, Nat.le_of_ble_eq_true rfl⟩) ⟨mPre_bl, va_recv hK hP (ci := 3) (q0 := 0) rfl rfl, fun U hU hW => ⟨rfl, by rw [hU], by rw [hU]; exact hP, hYK.moved hW.alike⟩⟩ rfl rfl hl.1 rfl (lv_room (Nat.le_of_ble_eq_true rfl)) dX4_judged_42 ⟨Nat.le_of_ble_eq_true rfl, Nat.le_of_ble_eq_true rfl⟩) hS (fun q _ h => aA.le hS.1 h) (fun q h => aA.le hS.1 h) (fun H locs hP hz hk hS => ?_)
                  refine lv_istore (lv' := [(8, .int (-1)), (7, .int (nI i)), (6, .int (nI k0)), (0, .ref (h 0)), (1, .long p1), (3, .int e1), (4, .int s1), (5, .int l1)]) hx hb dX4_judged_45 hl (by decide) rfl (fun ls hl => ?_)
                  refine lv_iload hx hb dX4_judged_47 (lv_at hl 0 rfl) ?_
                  refine lv_if_lt (tgt := 95) hx hb dX4_judged_49 (by decide) (fun c_49 => ?_) (fun c_49 => ?_)
                  · refine lv_iinc (v := nI (i + 1)) (lv' := [(7, .int (nI (i + 1))), (8, .int (-1)), (6, .int (nI k0)), (0, .ref (h 0)), (1, .long p1), (3, .int e1), (4, .int s1), (5, .int l1)]) hx hb dX4_judged_95 hl (k := 1) rfl (inc1 _) (by decide) rfl (fun ls hl => ?_)
                    refine lv_goto (tgt := 32) hx hb dX4_judged_98 (by decide) ?_
                    exact ih (i + 1) (by omega) (dup_skip (L := ((n, e0), fB, fP, fX, fS, fL)) hd (by omega) hoc) _ _ hP hS ls (lv_sub hl [0, 2, 3, 4, 5, 6, 7] rfl)
                  · exact absurd (by decide) c_49
                · have hk1n : k1 < n := (occ_spec hoc).1
                  refine xgoI (xrunV (As := [.long p1, .int (nI i)]) (rest := []) ⟨hx, hb, hml, hown, hts⟩ (mX4_knownOne l Y h hh H.size _ _ p1 i (nI k1) (by omega) hlg.1 (kO_some (L := ((n, e0), fB, fP, fX, fS, fL)) hp0 hoc)) (cwV 2 hts (lw_V q347 q349 qs5 q14 q350) rfl rfl rfl (by decide +kernel) ⟨Nat.le_of_ble_eq_true rfl, Nat.le_of_ble_eq_true rfl⟩) ⟨mPre_bl, va_recv hK hP (ci := 3) (q0 := 0) rfl rfl, fun U hU hW => ⟨rfl, by rw [hU], by rw [hU]; exact hP, hYK.moved hW.alike⟩⟩ rfl rfl hl.1 rfl (lv_room (Nat.le_of_ble_eq_true rfl)) dX4_judged_42 ⟨Nat.le_of_ble_eq_true rfl, Nat.le_of_ble_eq_true rfl⟩) hS (fun q _ h => aA.le hS.1 h) (fun q h => aA.le hS.1 h) (fun H locs hP hz hk hS => ?_)
                  refine lv_istore (lv' := [(8, .int (nI k1)), (7, .int (nI i)), (6, .int (nI k0)), (0, .ref (h 0)), (1, .long p1), (3, .int e1), (4, .int s1), (5, .int l1)]) hx hb dX4_judged_45 hl (by decide) rfl (fun ls hl => ?_)
                  refine lv_iload hx hb dX4_judged_47 (lv_at hl 0 rfl) ?_
                  refine lv_if_lt (tgt := 95) hx hb dX4_judged_49 (by decide) (fun c_49 => ?_) (fun c_49 => ?_)
                  · exact absurd c_49 (nI_pos (by omega))
                  · refine lv_aload_n hx hb dX4_judged_52 rfl (lv_at hl 3 rfl) ?_
                    refine va_get (D := Y.1) (ci := 3) (v := .ref (h 3)) (C := RX4) (T := TX4) (N := 8) hx hb hts in_X4 hown hK hP 0 rfl rfl 5 (by decide) (hts _ q311) (fun _ h9 => h9) rfl dX4_judged_53 ?_
                    refine lv_iload hx hb dX4_judged_56 (lv_at hl 0 rfl) ?_
                    refine y_iald hx hb hK hP 3 0 fX rfl rfl k1 (by omega) (by decide) dX4_judged_58 ?_
                    refine lv_iload_n hx hb dX4_judged_59 rfl (lv_at hl 5 rfl) ?_
                    refine lv_icmp_ne (tgt := 95) hx hb dX4_judged_60 (by decide) (fun c_60 => ?_) (fun c_60 => ?_)
                    · refine lv_iinc (v := nI (i + 1)) (lv' := [(7, .int (nI (i + 1))), (8, .int (nI k1)), (6, .int (nI k0)), (0, .ref (h 0)), (1, .long p1), (3, .int e1), (4, .int s1), (5, .int l1)]) hx hb dX4_judged_95 hl (k := 1) rfl (inc1 _) (by decide) rfl (fun ls hl => ?_)
                      refine lv_goto (tgt := 32) hx hb dX4_judged_98 (by decide) ?_
                      exact ih (i + 1) (by omega) (dup_miss (L := ((n, e0), fB, fP, fX, fS, fL)) hd (by omega) hoc (fun z => c_60 z.1)) _ _ hP hS ls (lv_sub hl [0, 2, 3, 4, 5, 6, 7] rfl)
                    · refine lv_aload_n hx hb dX4_judged_63 rfl (lv_at hl 3 rfl) ?_
                      refine va_get (D := Y.1) (ci := 3) (v := .ref (h 4)) (C := RX4) (T := TX4) (N := 8) hx hb hts in_X4 hown hK hP 0 rfl rfl 6 (by decide) (hts _ q312) (fun _ h9 => h9) rfl dX4_judged_64 ?_
                      refine lv_iload hx hb dX4_judged_67 (lv_at hl 0 rfl) ?_
                      refine y_iald hx hb hK hP 4 0 fS rfl rfl k1 (by omega) (by decide) dX4_judged_69 ?_
                      refine lv_iload hx hb dX4_judged_70 (lv_at hl 6 rfl) ?_
                      refine lv_icmp_ne (tgt := 95) hx hb dX4_judged_72 (by decide) (fun c_72 => ?_) (fun c_72 => ?_)
                      · refine lv_iinc (v := nI (i + 1)) (lv' := [(7, .int (nI (i + 1))), (8, .int (nI k1)), (6, .int (nI k0)), (0, .ref (h 0)), (1, .long p1), (3, .int e1), (4, .int s1), (5, .int l1)]) hx hb dX4_judged_95 hl (k := 1) rfl (inc1 _) (by decide) rfl (fun ls hl => ?_)
                        refine lv_goto (tgt := 32) hx hb dX4_judged_98 (by decide) ?_
                        exact ih (i + 1) (by omega) (dup_miss (L := ((n, e0), fB, fP, fX, fS, fL)) hd (by omega) hoc (fun z => c_72 z.2.1)) _ _ hP hS ls (lv_sub hl [0, 2, 3, 4, 5, 6, 7] rfl)
                      · refine lv_aload_n hx hb dX4_judged_75 rfl (lv_at hl 3 rfl) ?_
                        refine va_get (D := Y.1) (ci := 3) (v := .ref (h 5)) (C := RX4) (T := TX4) (N := 8) hx hb hts in_X4 hown hK hP 0 rfl rfl 7 (by decide) (hts _ q313) (fun _ h9 => h9) rfl dX4_judged_76 ?_
                        refine lv_iload hx hb dX4_judged_79 (lv_at hl 0 rfl) ?_
                        refine y_iald hx hb hK hP 5 0 fL rfl rfl k1 (by omega) (by decide) dX4_judged_81 ?_
                        refine lv_iload hx hb dX4_judged_82 (lv_at hl 7 rfl) ?_
                        refine lv_icmp_ne (tgt := 95) hx hb dX4_judged_84 (by decide) (fun c_84 => ?_) (fun c_84 => ?_)
                        · refine lv_iinc (v := nI (i + 1)) (lv' := [(7, .int (nI (i + 1))), (8, .int (nI k1)), (6, .int (nI k0)), (0, .ref (h 0)), (1, .long p1), (3, .int e1), (4, .int s1), (5, .int l1)]) hx hb dX4_judged_95 hl (k := 1) rfl (inc1 _) (by decide) rfl (fun ls hl => ?_)
                          refine lv_goto (tgt := 32) hx hb dX4_judged_98 (by decide) ?_
                          exact ih (i + 1) (by omega) (dup_miss (L := ((n, e0), fB, fP, fX, fS, fL)) hd (by omega) hoc (fun z => c_84 z.2.2)) _ _ hP hS ls (lv_sub hl [0, 2, 3, 4, 5, 6, 7] rfl)
                        · refine lv_aload_n hx hb dX4_judged_87 rfl (lv_at hl 3 rfl) ?_
                          refine va_get (D := Y.1) (ci := 3) (v := .ref (h 1)) (C := RX4) (T := TX4) (N := 8) hx hb hts in_X4 hown hK hP 0 rfl rfl 3 (by decide) (hts _ q309) (fun _ h9 => h9) rfl dX4_judged_88 ?_
                          refine lv_iload hx hb dX4_judged_91 (lv_at hl 0 rfl) ?_
                          refine y_iald hx hb hK hP 1 0 fB rfl rfl k1 (by omega) (by decide) dX4_judged_93 ?_
                          exact xiret hx hb hr hlk hS dX4_judged_94 (⟨ri (judge_hit (L := ((n, e0), fB, fP, fX, fS, fL)) hp0 hk0 (i32_le.mpr c_23) hd (by omega) hoc c_60 c_72 c_84), hP⟩)
          exact loop 5 0 (by omega) rfl _ _ hP hS ls (lv_sub hl [0, 1, 2, 3, 4, 5, 6] rfl)
        · refine lv_bipush (v := (-6)) hx hb dX4_judged_26 (by decide) ?_
          exact xiret hx hb hr hlk hS dX4_judged_28 (⟨ri (by rw [judge_some (L := ((n, e0), fB, fP, fX, fS, fL)) hp0 hk0, if_pos (i32_lt.mp c_23)]), hP⟩)
      · exact absurd (nI_pos' (by omega)) c_10
set_option maxHeartbeats 4000000 in
theorem mX4_come (l : Launch) (Y : YT) (h : Nat → Nat) (hh : aD 6 h) (sz : Nat) (L : Lg) (cd : Int32) (p1 : Int64) (e1 s1 l1 : Int32) (hn : gN L < 2000) : XMet l yX4_come (ws_ yX4_come cX4_come 6 none) ({ frames := 0, cells := 0, slots := 0, locals := 0 }) (mPre Y h L cd sz [.ref (h 0), .long p1, .int e1, .int s1, .int l1]) (xQ (pV (mH Y h (lgPush L p1 e1 s1 l1) cd)) (aA 6 h sz)) 0 0 (aA 6 h sz) := by
  refine XMet.ofW (cc := cX4_come) (maxL := 6) (ret := none) (by decide) rfl ?_
  intro p e s m args below meth c s₁ B hml hno hv
  obtain ⟨rfl, hsz, hP, hYK⟩ := hv
  obtain ⟨⟨n, e0⟩, fB, fP, fX, fS, fL⟩ := L
  have hx := B.exec
  have hb := B.bytes
  have hr := B.returns
  have hlk := B.notSynchronized
  have hts := atoms_spec (ws := ws_ yX4_come cX4_come 6 none) B.pre
  have hts : ∀ w ∈ lw_all, w.before _ s = true := fun w h => hts w (List.mem_cons_of_mem _ h)
  have hown : s.vm.findClass RX4 = some m.cls := findClass_of_methodNamed B.named
  subst hsz
  have hK := hYK.1
  have hP0 := hP
  have hS : va_S (aA 6 h s.heap.size) s.heap s.heap [] := va_S.rf
  have hl := lv_entry [.ref (h 0), .long p1, .int e1, .int s1, .int l1] (n := 6) (Nat.le_of_ble_eq_true rfl)
  rw [lg_entry_eq]
  generalize (lg_sl [.ref (h 0), .long p1, .int e1, .int s1, .int l1] ++ List.replicate (6 - (lg_sl [.ref (h 0), .long p1, .int e1, .int s1, .int l1]).length) Slot.unset).toArray = ls at hl ⊢
  have hl : lv_has ls 6 [(0, .ref (h 0)), (1, .long p1), (3, .int e1), (4, .int s1), (5, .int l1)] := hl
  have hn : n < 2000 := hn
  refine lv_aload_n hx hb dX4_come_0 rfl (lv_at hl 0 rfl) ?_
  refine va_get (D := Y.1) (ci := 3) (v := .ref (h 1)) (C := RX4) (T := TX4) (N := 8) hx hb hts in_X4 hown hK hP 0 rfl rfl 3 (by decide) (hts _ q309) (fun _ h9 => h9) rfl dX4_come_1 ?_
  refine lv_aload_n hx hb dX4_come_4 rfl (lv_at hl 0 rfl) ?_
  refine va_get (D := Y.1) (ci := 3) (v := .int (nI n)) (C := RX4) (T := TX4) (N := 8) hx hb hts in_X4 hown hK hP 0 rfl rfl 1 (by decide) (hts _ q307) (fun _ h9 => h9) rfl dX4_come_5 ?_
  refine lv_aload_n hx hb dX4_come_8 rfl (lv_at hl 0 rfl) ?_
  refine va_get (D := Y.1) (ci := 3) (v := .int e0) (C := RX4) (T := TX4) (N := 8) hx hb hts in_X4 hown hK hP 0 rfl rfl 2 (by decide) (hts _ q308) (fun _ h9 => h9) rfl dX4_come_9 ?_
  refine y_iast hx hb hK hP (md_D hh) hS 1 0 fB rfl rfl n (by omega) (by decide) dX4_come_12 (fun H locs hP hS => ?_)
  have hP : mH Y h ((n, e0), (upd fB n e0), fP, fX, fS, fL) cd H := hP
  refine lv_aload_n hx hb dX4_come_13 rfl (lv_at hl 0 rfl) ?_
  refine va_get (D := Y.1) (ci := 3) (v := .ref (h 2)) (C := RX4) (T := TX4) (N := 8) hx hb hts in_X4 hown hK hP 0 rfl rfl 4 (by decide) (hts _ q310) (fun _ h9 => h9) rfl dX4_come_14 ?_
  refine lv_aload_n hx hb dX4_come_17 rfl (lv_at hl 0 rfl) ?_
  refine va_get (D := Y.1) (ci := 3) (v := .int (nI n)) (C := RX4) (T := TX4) (N := 8) hx hb hts in_X4 hown hK hP 0 rfl rfl 1 (by decide) (hts _ q307) (fun _ h9 => h9) rfl dX4_come_18 ?_
  refine lv_lload_n hx hb dX4_come_21 rfl (lv_at hl 1 rfl) ?_
  refine y_last hx hb hK hP (md_D hh) hS 2 1 fP rfl rfl n (by omega) (by decide) dX4_come_22 (fun H locs hP hS => ?_)
  have hP : mH Y h ((n, e0), (upd fB n e0), (vp_updL fP n p1), fX, fS, fL) cd H := hP
  refine lv_aload_n hx hb dX4_come_23 rfl (lv_at hl 0 rfl) ?_
  refine va_get (D := Y.1) (ci := 3) (v := .ref (h 3)) (C := RX4) (T := TX4) (N := 8) hx hb hts in_X4 hown hK hP 0 rfl rfl 5 (by decide) (hts _ q311) (fun _ h9 => h9) rfl dX4_come_24 ?_
  refine lv_aload_n hx hb dX4_come_27 rfl (lv_at hl 0 rfl) ?_
  refine va_get (D := Y.1) (ci := 3) (v := .int (nI n)) (C := RX4) (T := TX4) (N := 8) hx hb hts in_X4 hown hK hP 0 rfl rfl 1 (by decide) (hts _ q307) (fun _ h9 => h9) rfl dX4_come_28 ?_
  refine lv_iload_n hx hb dX4_come_31 rfl (lv_at hl 2 rfl) ?_
  refine y_iast hx hb hK hP (md_D hh) hS 3 0 fX rfl rfl n (by omega) (by decide) dX4_come_32 (fun H locs hP hS => ?_)
  have hP : mH Y h ((n, e0), (upd fB n e0), (vp_updL fP n p1), (upd fX n e1), fS, fL) cd H := hP
  refine lv_aload_n hx hb dX4_come_33 rfl (lv_at hl 0 rfl) ?_
  refine va_get (D := Y.1) (ci := 3) (v := .ref (h 4)) (C := RX4) (T := TX4) (N := 8) hx hb hts in_X4 hown hK hP 0 rfl rfl 6 (by decide) (hts _ q312) (fun _ h9 => h9) rfl dX4_come_34 ?_
  refine lv_aload_n hx hb dX4_come_37 rfl (lv_at hl 0 rfl) ?_
  refine va_get (D := Y.1) (ci := 3) (v := .int (nI n)) (C := RX4) (T := TX4) (N := 8) hx hb hts in_X4 hown hK hP 0 rfl rfl 1 (by decide) (hts _ q307) (fun _ h9 => h9) rfl dX4_come_38 ?_
  refine lv_iload hx hb dX4_come_41 (lv_at hl 3 rfl) ?_
  refine y_iast hx hb hK hP (md_D hh) hS 4 0 fS rfl rfl n (by omega) (by decide) dX4_come_43 (fun H locs hP hS => ?_)
  have hP : mH Y h ((n, e0), (upd fB n e0), (vp_updL fP n p1), (upd fX n e1), (upd fS n s1), fL) cd H := hP
  refine lv_aload_n hx hb dX4_come_44 rfl (lv_at hl 0 rfl) ?_
  refine va_get (D := Y.1) (ci := 3) (v := .ref (h 5)) (C := RX4) (T := TX4) (N := 8) hx hb hts in_X4 hown hK hP 0 rfl rfl 7 (by decide) (hts _ q313) (fun _ h9 => h9) rfl dX4_come_45 ?_
  refine lv_aload_n hx hb dX4_come_48 rfl (lv_at hl 0 rfl) ?_
  refine va_get (D := Y.1) (ci := 3) (v := .int (nI n)) (C := RX4) (T := TX4) (N := 8) hx hb hts in_X4 hown hK hP 0 rfl rfl 1 (by decide) (hts _ q307) (fun _ h9 => h9) rfl dX4_come_49 ?_
  refine lv_iload hx hb dX4_come_52 (lv_at hl 4 rfl) ?_
  refine y_iast hx hb hK hP (md_D hh) hS 5 0 fL rfl rfl n (by omega) (by decide) dX4_come_54 (fun H locs hP hS => ?_)
  have hP : mH Y h ((n, e0), (upd fB n e0), (vp_updL fP n p1), (upd fX n e1), (upd fS n s1), (upd fL n l1)) cd H := hP
  refine lv_aload_n hx hb dX4_come_55 rfl (lv_at hl 0 rfl) ?_
  refine lv_dup hx hb dX4_come_56 rfl ?_
  refine va_get (D := Y.1) (ci := 3) (v := .int (nI n)) (C := RX4) (T := TX4) (N := 8) hx hb hts in_X4 hown hK hP 0 rfl rfl 1 (by decide) (hts _ q307) (fun _ h9 => h9) rfl dX4_come_57 ?_
  refine lv_iconst (v := 1) hx hb dX4_come_60 (by decide) ?_
  refine lv_iadd hx hb dX4_come_61 ?_
  refine xi_eq (nI (n + 1)) (nI_1 n) ?_
  refine va_put (D := Y.1) (ci := 3) (v := .int (nI (n + 1))) (ty := .int) (C := RX4) (T := TX4) (N := 8) hx hb hts in_X4 tyX4 tyX4_ok nmX4 hown hK hP (md_D hh) hS 0 rfl rfl 1 (by decide) (hts _ q307) (fun _ h9 => h9) rfl (by decide +kernel) rfl rfl (Nat.le_of_ble_eq_true rfl) dX4_come_62 (fun H locs hP _ hS => ?_)
  have hP : mH Y h (((n + 1), e0), (upd fB n e0), (vp_updL fP n p1), (upd fX n e1), (upd fS n s1), (upd fL n l1)) cd H := hP
  refine lv_aload_n hx hb dX4_come_65 rfl (lv_at hl 0 rfl) ?_
  refine lv_dup hx hb dX4_come_66 rfl ?_
  refine va_get (D := Y.1) (ci := 3) (v := .int e0) (C := RX4) (T := TX4) (N := 8) hx hb hts in_X4 hown hK hP 0 rfl rfl 2 (by decide) (hts _ q308) (fun _ h9 => h9) rfl dX4_come_67 ?_
  refine lv_iload hx hb dX4_come_70 (lv_at hl 4 rfl) ?_
  refine lv_iconst (v := 1) hx hb dX4_come_72 (by decide) ?_
  refine lv_iadd hx hb dX4_come_73 ?_
  refine lv_iadd hx hb dX4_come_74 ?_
  refine va_put (D := Y.1) (ci := 3) (v := .int (e0 + (l1 + 1))) (ty := .int) (C := RX4) (T := TX4) (N := 8) hx hb hts in_X4 tyX4 tyX4_ok nmX4 hown hK hP (md_D hh) hS 0 rfl rfl 2 (by decide) (hts _ q308) (fun _ h9 => h9) rfl (by decide +kernel) rfl rfl (Nat.le_of_ble_eq_true rfl) dX4_come_75 (fun H locs hP _ hS => ?_)
  have hP : mH Y h (((n + 1), e0 + (l1 + 1)), (upd fB n e0), (vp_updL fP n p1), (upd fX n e1), (upd fS n s1), (upd fL n l1)) cd H := hP
  exact xvret hx hb hr hlk hS dX4_come_78 (⟨rfl, hP⟩)
set_option maxHeartbeats 4000000 in
theorem mX4_copy (l : Launch) (Y : YT) (h : Nat → Nat) (hh : aD 6 h) (sz : Nat) (L : Lg) (cd : Int32) (a b : Nat) (ha : a < 2000) (hb2 : b < 2000) : XMet l yX4_copy (ws_ yX4_copy cX4_copy 3 none) ({ frames := 0, cells := 0, slots := 0, locals := 0 }) (mPre Y h L cd sz [.ref (h 0), .int (nI a), .int (nI b)]) (xQ (pV (mH Y h (lgMove L a b) cd)) (aA 6 h sz)) 0 0 (aA 6 h sz) := by
  refine XMet.ofW (cc := cX4_copy) (maxL := 3) (ret := none) (by decide) rfl ?_
  intro p e s m args below meth c s₁ B hml hno hv
  obtain ⟨rfl, hsz, hP, hYK⟩ := hv
  obtain ⟨⟨n, e0⟩, fB, fP, fX, fS, fL⟩ := L
  have hx := B.exec
  have hb := B.bytes
  have hr := B.returns
  have hlk := B.notSynchronized
  have hts := atoms_spec (ws := ws_ yX4_copy cX4_copy 3 none) B.pre
  have hts : ∀ w ∈ lw_all, w.before _ s = true := fun w h => hts w (List.mem_cons_of_mem _ h)
  have hown : s.vm.findClass RX4 = some m.cls := findClass_of_methodNamed B.named
  subst hsz
  have hK := hYK.1
  have hP0 := hP
  have hS : va_S (aA 6 h s.heap.size) s.heap s.heap [] := va_S.rf
  have hl := lv_entry [.ref (h 0), .int (nI a), .int (nI b)] (n := 3) (Nat.le_of_ble_eq_true rfl)
  rw [lg_entry_eq]
  generalize (lg_sl [.ref (h 0), .int (nI a), .int (nI b)] ++ List.replicate (3 - (lg_sl [.ref (h 0), .int (nI a), .int (nI b)]).length) Slot.unset).toArray = ls at hl ⊢
  have hl : lv_has ls 3 [(0, .ref (h 0)), (1, .int (nI a)), (2, .int (nI b))] := hl
  refine lv_aload_n hx hb dX4_copy_0 rfl (lv_at hl 0 rfl) ?_
  refine va_get (D := Y.1) (ci := 3) (v := .ref (h 1)) (C := RX4) (T := TX4) (N := 8) hx hb hts in_X4 hown hK hP 0 rfl rfl 3 (by decide) (hts _ q309) (fun _ h9 => h9) rfl dX4_copy_1 ?_
  refine lv_iload_n hx hb dX4_copy_4 rfl (lv_at hl 2 rfl) ?_
  refine lv_aload_n hx hb dX4_copy_5 rfl (lv_at hl 0 rfl) ?_
  refine va_get (D := Y.1) (ci := 3) (v := .ref (h 1)) (C := RX4) (T := TX4) (N := 8) hx hb hts in_X4 hown hK hP 0 rfl rfl 3 (by decide) (hts _ q309) (fun _ h9 => h9) rfl dX4_copy_6 ?_
  refine lv_iload_n hx hb dX4_copy_9 rfl (lv_at hl 1 rfl) ?_
  refine y_iald hx hb hK hP 1 0 fB rfl rfl a (by omega) (by decide) dX4_copy_10 ?_
  refine y_iast hx hb hK hP (md_D hh) hS 1 0 fB rfl rfl b (by omega) (by decide) dX4_copy_11 (fun H locs hP hS => ?_)
  have hP : mH Y h ((n, e0), (upd fB b (fB a)), fP, fX, fS, fL) cd H := hP
  refine lv_aload_n hx hb dX4_copy_12 rfl (lv_at hl 0 rfl) ?_
  refine va_get (D := Y.1) (ci := 3) (v := .ref (h 2)) (C := RX4) (T := TX4) (N := 8) hx hb hts in_X4 hown hK hP 0 rfl rfl 4 (by decide) (hts _ q310) (fun _ h9 => h9) rfl dX4_copy_13 ?_
  refine lv_iload_n hx hb dX4_copy_16 rfl (lv_at hl 2 rfl) ?_
  refine lv_aload_n hx hb dX4_copy_17 rfl (lv_at hl 0 rfl) ?_
  refine va_get (D := Y.1) (ci := 3) (v := .ref (h 2)) (C := RX4) (T := TX4) (N := 8) hx hb hts in_X4 hown hK hP 0 rfl rfl 4 (by decide) (hts _ q310) (fun _ h9 => h9) rfl dX4_copy_18 ?_
  refine lv_iload_n hx hb dX4_copy_21 rfl (lv_at hl 1 rfl) ?_
  refine y_lald hx hb hK hP 2 1 fP rfl rfl a (by omega) (by decide) dX4_copy_22 ?_
  refine y_last hx hb hK hP (md_D hh) hS 2 1 fP rfl rfl b (by omega) (by decide) dX4_copy_23 (fun H locs hP hS => ?_)
  have hP : mH Y h ((n, e0), (upd fB b (fB a)), (vp_updL fP b (fP a)), fX, fS, fL) cd H := hP
  refine lv_aload_n hx hb dX4_copy_24 rfl (lv_at hl 0 rfl) ?_
  refine va_get (D := Y.1) (ci := 3) (v := .ref (h 3)) (C := RX4) (T := TX4) (N := 8) hx hb hts in_X4 hown hK hP 0 rfl rfl 5 (by decide) (hts _ q311) (fun _ h9 => h9) rfl dX4_copy_25 ?_
  refine lv_iload_n hx hb dX4_copy_28 rfl (lv_at hl 2 rfl) ?_
  refine lv_aload_n hx hb dX4_copy_29 rfl (lv_at hl 0 rfl) ?_
  refine va_get (D := Y.1) (ci := 3) (v := .ref (h 3)) (C := RX4) (T := TX4) (N := 8) hx hb hts in_X4 hown hK hP 0 rfl rfl 5 (by decide) (hts _ q311) (fun _ h9 => h9) rfl dX4_copy_30 ?_
  refine lv_iload_n hx hb dX4_copy_33 rfl (lv_at hl 1 rfl) ?_
  refine y_iald hx hb hK hP 3 0 fX rfl rfl a (by omega) (by decide) dX4_copy_34 ?_
  refine y_iast hx hb hK hP (md_D hh) hS 3 0 fX rfl rfl b (by omega) (by decide) dX4_copy_35 (fun H locs hP hS => ?_)
  have hP : mH Y h ((n, e0), (upd fB b (fB a)), (vp_updL fP b (fP a)), (upd fX b (fX a)), fS, fL) cd H := hP
  refine lv_aload_n hx hb dX4_copy_36 rfl (lv_at hl 0 rfl) ?_
  refine va_get (D := Y.1) (ci := 3) (v := .ref (h 4)) (C := RX4) (T := TX4) (N := 8) hx hb hts in_X4 hown hK hP 0 rfl rfl 6 (by decide) (hts _ q312) (fun _ h9 => h9) rfl dX4_copy_37 ?_
  refine lv_iload_n hx hb dX4_copy_40 rfl (lv_at hl 2 rfl) ?_
  refine lv_aload_n hx hb dX4_copy_41 rfl (lv_at hl 0 rfl) ?_
  refine va_get (D := Y.1) (ci := 3) (v := .ref (h 4)) (C := RX4) (T := TX4) (N := 8) hx hb hts in_X4 hown hK hP 0 rfl rfl 6 (by decide) (hts _ q312) (fun _ h9 => h9) rfl dX4_copy_42 ?_
  refine lv_iload_n hx hb dX4_copy_45 rfl (lv_at hl 1 rfl) ?_
  refine y_iald hx hb hK hP 4 0 fS rfl rfl a (by omega) (by decide) dX4_copy_46 ?_
  refine y_iast hx hb hK hP (md_D hh) hS 4 0 fS rfl rfl b (by omega) (by decide) dX4_copy_47 (fun H locs hP hS => ?_)
  have hP : mH Y h ((n, e0), (upd fB b (fB a)), (vp_updL fP b (fP a)), (upd fX b (fX a)), (upd fS b (fS a)), fL) cd H := hP
  refine lv_aload_n hx hb dX4_copy_48 rfl (lv_at hl 0 rfl) ?_
  refine va_get (D := Y.1) (ci := 3) (v := .ref (h 5)) (C := RX4) (T := TX4) (N := 8) hx hb hts in_X4 hown hK hP 0 rfl rfl 7 (by decide) (hts _ q313) (fun _ h9 => h9) rfl dX4_copy_49 ?_
  refine lv_iload_n hx hb dX4_copy_52 rfl (lv_at hl 2 rfl) ?_
  refine lv_aload_n hx hb dX4_copy_53 rfl (lv_at hl 0 rfl) ?_
  refine va_get (D := Y.1) (ci := 3) (v := .ref (h 5)) (C := RX4) (T := TX4) (N := 8) hx hb hts in_X4 hown hK hP 0 rfl rfl 7 (by decide) (hts _ q313) (fun _ h9 => h9) rfl dX4_copy_54 ?_
  refine lv_iload_n hx hb dX4_copy_57 rfl (lv_at hl 1 rfl) ?_
  refine y_iald hx hb hK hP 5 0 fL rfl rfl a (by omega) (by decide) dX4_copy_58 ?_
  refine y_iast hx hb hK hP (md_D hh) hS 5 0 fL rfl rfl b (by omega) (by decide) dX4_copy_59 (fun H locs hP hS => ?_)
  have hP : mH Y h ((n, e0), (upd fB b (fB a)), (vp_updL fP b (fP a)), (upd fX b (fX a)), (upd fS b (fS a)), (upd fL b (fL a))) cd H := hP
  exact xvret hx hb hr hlk hS dX4_copy_60 (⟨rfl, hP⟩)
end
section
/-! ProducerBookModel: offer, offers (written by prog/model2.py) -/
set_option maxRecDepth 100000
set_option maxHeartbeats 4000000 in
theorem mX4_offer (l : Launch) (Y : YT) (h : Nat → Nat) (hh : aD 6 h) (sz : Nat) (L : Lg) (cd : Int32) (p1 : Int64) (e1 s1 l1 : Int32) (hlg : LogOK L) : XMet l yX4_offer (ws_ yX4_offer cX4_offer 7 (some .int)) ({ frames := 2, cells := 0, slots := 0, locals := 53 }) (mPre Y h L cd sz [.ref (h 0), .long p1, .int e1, .int s1, .int l1]) (xQ (pI (ofR L p1 e1 s1 l1).2.1 (mH Y h (ofR L p1 e1 s1 l1).2.2 (ofR L p1 e1 s1 l1).1)) (aA 6 h sz)) 0 0 (aA 6 h sz) := by
  refine XMet.ofW (cc := cX4_offer) (maxL := 7) (ret := (some .int)) (by decide) rfl ?_
  intro p e s m args below meth c s₁ B hml hno hv
  obtain ⟨rfl, hsz, hP, hYK⟩ := hv
  obtain ⟨⟨n, e0⟩, fB, fP, fX, fS, fL⟩ := L
  have hx := B.exec
  have hb := B.bytes
  have hr := B.returns
  have hlk := B.notSynchronized
  have hts := atoms_spec (ws := ws_ yX4_offer cX4_offer 7 (some .int)) B.pre
  have hts : ∀ w ∈ lw_all, w.before _ s = true := fun w h => hts w (List.mem_cons_of_mem _ h)
  have hown : s.vm.findClass RX4 = some m.cls := findClass_of_methodNamed B.named
  subst hsz
  have hK := hYK.1
  have hP0 := hP
  have hS : va_S (aA 6 h s.heap.size) s.heap s.heap [] := va_S.rf
  have hl := lv_entry [.ref (h 0), .long p1, .int e1, .int s1, .int l1] (n := 7) (Nat.le_of_ble_eq_true rfl)
  rw [lg_entry_eq]
  generalize (lg_sl [.ref (h 0), .long p1, .int e1, .int s1, .int l1] ++ List.replicate (7 - (lg_sl [.ref (h 0), .long p1, .int e1, .int s1, .int l1]).length) Slot.unset).toArray = ls at hl ⊢
  have hl : lv_has ls 7 [(0, .ref (h 0)), (1, .long p1), (3, .int e1), (4, .int s1), (5, .int l1)] := hl
  have hn : n ≤ 2000 := hlg.1
  refine lv_aload_n hx hb dX4_offer_0 rfl (lv_at hl 0 rfl) ?_
  refine lv_lload_n hx hb dX4_offer_1 rfl (lv_at hl 1 rfl) ?_
  refine lv_iload_n hx hb dX4_offer_2 rfl (lv_at hl 2 rfl) ?_
  refine lv_iload hx hb dX4_offer_3 (lv_at hl 3 rfl) ?_
  refine lv_iload hx hb dX4_offer_5 (lv_at hl 4 rfl) ?_
  by_cases hB : okB p1 e1 s1 l1
  · refine xgoI (xrunS (As := [.long p1, .int e1, .int s1, .int l1]) (rest := [.ref (h 0)]) ⟨hx, hb, hml, hown, hts⟩ (mX4_isBatch l s.heap.size p1 e1 s1 l1) (va_cwS 4 hts (lw_S q339 q340 q14 q341) rfl rfl rfl (by decide +kernel) ⟨Nat.le_of_ble_eq_true rfl, Nat.le_of_ble_eq_true rfl⟩) ⟨sPre_bl, fun U hU hW => ⟨rfl, congrArg Array.size hU⟩⟩ rfl rfl hl.1 rfl (lv_room (Nat.le_of_ble_eq_true rfl)) dX4_offer_7 ⟨Nat.le_of_ble_eq_true rfl, Nat.le_of_ble_eq_true rfl⟩) hS (fun q _ h => Or.inr (Nat.le_trans hS.1 h)) (fun q h => Or.inr (Nat.le_trans hS.1 h)) (fun H locs _ hz hk hS => ?_)
    have hP := sA_keep hP hk
    refine xi_eq 1 (if_pos hB) ?_
    refine lv_if_eq (tgt := 17) hx hb dX4_offer_10 (by decide) (fun c_10 => ?_) (fun c_10 => ?_)
    · exact absurd c_10 (by decide)
    · refine lv_iconst (v := 0) hx hb dX4_offer_13 (by decide) ?_
      refine lv_goto (tgt := 18) hx hb dX4_offer_14 (by decide) ?_
      refine va_put (D := Y.1) (ci := 3) (v := .int 0) (ty := .int) (C := RX4) (T := TX4) (N := 8) hx hb hts in_X4 tyX4 tyX4_ok nmX4 hown hK hP (md_D hh) hS 0 rfl rfl 0 (by decide) (hts _ q306) (fun _ h9 => h9) rfl (by decide +kernel) rfl rfl (Nat.le_of_ble_eq_true rfl) dX4_offer_18 (fun H locs hP _ hS => ?_)
      have hP : mH Y h ((n, e0), fB, fP, fX, fS, fL) 0 H := hP
      refine lv_aload_n hx hb dX4_offer_21 rfl (lv_at hl 0 rfl) ?_
      refine va_get (D := Y.1) (ci := 3) (v := .int 0) (C := RX4) (T := TX4) (N := 8) hx hb hts in_X4 hown hK hP 0 rfl rfl 0 (by decide) (hts _ q306) (fun _ h9 => h9) rfl dX4_offer_22 ?_
      refine lv_if_le (tgt := 30) hx hb dX4_offer_25 (by decide) (fun c_25 => ?_) (fun c_25 => ?_)
      · refine lv_aload_n hx hb dX4_offer_30 rfl (lv_at hl 0 rfl) ?_
        refine lv_lload_n hx hb dX4_offer_31 rfl (lv_at hl 1 rfl) ?_
        refine lv_iload_n hx hb dX4_offer_32 rfl (lv_at hl 2 rfl) ?_
        refine lv_iload hx hb dX4_offer_33 (lv_at hl 3 rfl) ?_
        refine lv_iload hx hb dX4_offer_35 (lv_at hl 4 rfl) ?_
        refine xgoI (xrunV (As := [.long p1, .int e1, .int s1, .int l1]) (rest := []) ⟨hx, hb, hml, hown, hts⟩ (mX4_judged l Y h hh H.size ((n, e0), fB, fP, fX, fS, fL) _ p1 e1 s1 l1 hlg) (cwV 4 hts (lw_V q343 q345 qs4 q14 q346) rfl rfl rfl (by decide +kernel) ⟨Nat.le_of_ble_eq_true rfl, Nat.le_of_ble_eq_true rfl⟩) ⟨mPre_bl, va_recv hK hP (ci := 3) (q0 := 0) rfl rfl, fun U hU hW => ⟨rfl, by rw [hU], by rw [hU]; exact hP, hYK.moved hW.alike⟩⟩ rfl rfl hl.1 rfl (lv_room (Nat.le_of_ble_eq_true rfl)) dX4_offer_37 ⟨Nat.le_of_ble_eq_true rfl, Nat.le_of_ble_eq_true rfl⟩) hS (fun q _ h => aA.le hS.1 h) (fun q h => aA.le hS.1 h) (fun H locs hP hz hk hS => ?_)
        refine lv_istore (lv' := [(6, .int (judge ((n, e0), fB, fP, fX, fS, fL) p1 e1 s1 l1)), (0, .ref (h 0)), (1, .long p1), (3, .int e1), (4, .int s1), (5, .int l1)]) hx hb dX4_offer_40 hl (by decide) rfl (fun ls hl => ?_)
        refine lv_iload hx hb dX4_offer_42 (lv_at hl 0 rfl) ?_
        refine lv_iconst (v := (-1)) hx hb dX4_offer_44 (by decide) ?_
        refine lv_icmp_eq (tgt := 51) hx hb dX4_offer_45 (by decide) (fun c_45 => ?_) (fun c_45 => ?_)
        · refine lv_aload_n hx hb dX4_offer_51 rfl (lv_at hl 1 rfl) ?_
          refine lv_aload_n hx hb dX4_offer_52 rfl (lv_at hl 1 rfl) ?_
          refine va_get (D := Y.1) (ci := 3) (v := .int (nI n)) (C := RX4) (T := TX4) (N := 8) hx hb hts in_X4 hown hK hP 0 rfl rfl 1 (by decide) (hts _ q307) (fun _ h9 => h9) rfl dX4_offer_53 ?_
          refine lv_sipush (v := 2000) hx hb dX4_offer_56 (by decide) ?_
          refine lv_icmp_eq (tgt := 76) hx hb dX4_offer_59 (by decide) (fun c_59 => ?_) (fun c_59 => ?_)
          · have hfu : full ((n, e0), fB, fP, fX, fS, fL) l1 := Or.inl ((n2000 hn).mp c_59)
            refine lv_iconst (v := 2) hx hb dX4_offer_76 (by decide) ?_
            refine lv_goto (tgt := 81) hx hb dX4_offer_77 (by decide) ?_
            refine va_put (D := Y.1) (ci := 3) (v := .int 2) (ty := .int) (C := RX4) (T := TX4) (N := 8) hx hb hts in_X4 tyX4 tyX4_ok nmX4 hown hK hP (md_D hh) hS 0 rfl rfl 0 (by decide) (hts _ q306) (fun _ h9 => h9) rfl (by decide +kernel) rfl rfl (Nat.le_of_ble_eq_true rfl) dX4_offer_81 (fun H locs hP _ hS => ?_)
            have hP : mH Y h ((n, e0), fB, fP, fX, fS, fL) 2 H := hP
            refine lv_aload_n hx hb dX4_offer_84 rfl (lv_at hl 1 rfl) ?_
            refine va_get (D := Y.1) (ci := 3) (v := .int 2) (C := RX4) (T := TX4) (N := 8) hx hb hts in_X4 hown hK hP 0 rfl rfl 0 (by decide) (hts _ q306) (fun _ h9 => h9) rfl dX4_offer_85 ?_
            refine lv_if_le (tgt := 93) hx hb dX4_offer_88 (by decide) (fun c_88 => ?_) (fun c_88 => ?_)
            · exact absurd c_88 (by decide)
            · refine lv_iconst (v := 0) hx hb dX4_offer_91 (by decide) ?_
              exact xiret hx hb hr hlk hS dX4_offer_92 ((by rw [of_full (L := ((n, e0), fB, fP, fX, fS, fL)) hB c_45 hfu]; exact ⟨rfl, hP⟩))
          · refine lv_aload_n hx hb dX4_offer_62 rfl (lv_at hl 1 rfl) ?_
            refine va_get (D := Y.1) (ci := 3) (v := .int e0) (C := RX4) (T := TX4) (N := 8) hx hb hts in_X4 hown hK hP 0 rfl rfl 2 (by decide) (hts _ q308) (fun _ h9 => h9) rfl dX4_offer_63 ?_
            refine lv_iload hx hb dX4_offer_66 (lv_at hl 5 rfl) ?_
            refine lv_iadd hx hb dX4_offer_68 ?_
            refine lv_iconst (v := 1) hx hb dX4_offer_69 (by decide) ?_
            refine lv_iadd hx hb dX4_offer_70 ?_
            refine lv_ldc hx hb hown (hts _ q355) dX4_offer_71 ?_
            refine lv_icmp_le (tgt := 80) hx hb dX4_offer_73 (by decide) (fun c_73 => ?_) (fun c_73 => ?_)
            · have hn2 : n < 2000 := Nat.not_le.mp (fun z => c_59 ((n2000 hn).mpr z))
              have hfu : ¬ full ((n, e0), fB, fP, fX, fS, fL) l1 := fun z => z.elim (fun y => absurd hn2 (Nat.not_lt.mpr y)) (fun y => i32_le.mpr c_73 y)
              refine lv_iconst (v := 0) hx hb dX4_offer_80 (by decide) ?_
              refine va_put (D := Y.1) (ci := 3) (v := .int 0) (ty := .int) (C := RX4) (T := TX4) (N := 8) hx hb hts in_X4 tyX4 tyX4_ok nmX4 hown hK hP (md_D hh) hS 0 rfl rfl 0 (by decide) (hts _ q306) (fun _ h9 => h9) rfl (by decide +kernel) rfl rfl (Nat.le_of_ble_eq_true rfl) dX4_offer_81 (fun H locs hP _ hS => ?_)
              have hP : mH Y h ((n, e0), fB, fP, fX, fS, fL) 0 H := hP
              refine lv_aload_n hx hb dX4_offer_84 rfl (lv_at hl 1 rfl) ?_
              refine va_get (D := Y.1) (ci := 3) (v := .int 0) (C := RX4) (T := TX4) (N := 8) hx hb hts in_X4 hown hK hP 0 rfl rfl 0 (by decide) (hts _ q306) (fun _ h9 => h9) rfl dX4_offer_85 ?_
              refine lv_if_le (tgt := 93) hx hb dX4_offer_88 (by decide) (fun c_88 => ?_) (fun c_88 => ?_)
              · refine lv_aload_n hx hb dX4_offer_93 rfl (lv_at hl 1 rfl) ?_
                refine lv_lload_n hx hb dX4_offer_94 rfl (lv_at hl 2 rfl) ?_
                refine lv_iload_n hx hb dX4_offer_95 rfl (lv_at hl 3 rfl) ?_
                refine lv_iload hx hb dX4_offer_96 (lv_at hl 4 rfl) ?_
                refine lv_iload hx hb dX4_offer_98 (lv_at hl 5 rfl) ?_
                refine xgoV (xrunV (As := [.long p1, .int e1, .int s1, .int l1]) (rest := []) ⟨hx, hb, hml, hown, hts⟩ (mX4_come l Y h hh H.size ((n, e0), fB, fP, fX, fS, fL) _ p1 e1 s1 l1 hn2) (cwV 4 hts (lw_V q356 q358 qs6 q14 q359) rfl rfl rfl (by decide +kernel) ⟨Nat.le_of_ble_eq_true rfl, Nat.le_of_ble_eq_true rfl⟩) ⟨mPre_bl, va_recv hK hP (ci := 3) (q0 := 0) rfl rfl, fun U hU hW => ⟨rfl, by rw [hU], by rw [hU]; exact hP, hYK.moved hW.alike⟩⟩ rfl rfl hl.1 rfl (lv_room (Nat.le_of_ble_eq_true rfl)) dX4_offer_100 ⟨Nat.le_of_ble_eq_true rfl, Nat.le_of_ble_eq_true rfl⟩) hS (fun q _ h => aA.le hS.1 h) (fun q h => aA.le hS.1 h) (fun H locs hP hz hk hS => ?_)
                have hP : mH Y h (((n + 1), (e0 + (l1 + 1))), (upd fB n e0), (vp_updL fP n p1), (upd fX n e1), (upd fS n s1), (upd fL n l1)) 0 H := hP
                refine lv_aload_n hx hb dX4_offer_103 rfl (lv_at hl 1 rfl) ?_
                refine va_get (D := Y.1) (ci := 3) (v := .ref (h 1)) (C := RX4) (T := TX4) (N := 8) hx hb hts in_X4 hown hK hP 0 rfl rfl 3 (by decide) (hts _ q309) (fun _ h9 => h9) rfl dX4_offer_104 ?_
                refine lv_aload_n hx hb dX4_offer_107 rfl (lv_at hl 1 rfl) ?_
                refine va_get (D := Y.1) (ci := 3) (v := .int (nI (n + 1))) (C := RX4) (T := TX4) (N := 8) hx hb hts in_X4 hown hK hP 0 rfl rfl 1 (by decide) (hts _ q307) (fun _ h9 => h9) rfl dX4_offer_108 ?_
                refine lv_iconst (v := 1) hx hb dX4_offer_111 (by decide) ?_
                refine lv_isub hx hb dX4_offer_112 ?_
                refine xi_eq (nI n) (nI_pred n) ?_
                refine y_iald hx hb hK hP 1 0 (upd fB n e0) rfl rfl n (by omega) (by decide) dX4_offer_113 ?_
                refine xi_eq e0 (pk_us) ?_
                exact xiret hx hb hr hlk hS dX4_offer_114 ((by rw [of_push (L := ((n, e0), fB, fP, fX, fS, fL)) hB c_45 hfu]; exact ⟨rfl, hP⟩))
              · exact absurd (by decide) c_88
            · have hfu : full ((n, e0), fB, fP, fX, fS, fL) l1 := Or.inr (i32_lt.mp c_73)
              refine lv_iconst (v := 2) hx hb dX4_offer_76 (by decide) ?_
              refine lv_goto (tgt := 81) hx hb dX4_offer_77 (by decide) ?_
              refine va_put (D := Y.1) (ci := 3) (v := .int 2) (ty := .int) (C := RX4) (T := TX4) (N := 8) hx hb hts in_X4 tyX4 tyX4_ok nmX4 hown hK hP (md_D hh) hS 0 rfl rfl 0 (by decide) (hts _ q306) (fun _ h9 => h9) rfl (by decide +kernel) rfl rfl (Nat.le_of_ble_eq_true rfl) dX4_offer_81 (fun H locs hP _ hS => ?_)
              have hP : mH Y h ((n, e0), fB, fP, fX, fS, fL) 2 H := hP
              refine lv_aload_n hx hb dX4_offer_84 rfl (lv_at hl 1 rfl) ?_
              refine va_get (D := Y.1) (ci := 3) (v := .int 2) (C := RX4) (T := TX4) (N := 8) hx hb hts in_X4 hown hK hP 0 rfl rfl 0 (by decide) (hts _ q306) (fun _ h9 => h9) rfl dX4_offer_85 ?_
              refine lv_if_le (tgt := 93) hx hb dX4_offer_88 (by decide) (fun c_88 => ?_) (fun c_88 => ?_)
              · exact absurd c_88 (by decide)
              · refine lv_iconst (v := 0) hx hb dX4_offer_91 (by decide) ?_
                exact xiret hx hb hr hlk hS dX4_offer_92 ((by rw [of_full (L := ((n, e0), fB, fP, fX, fS, fL)) hB c_45 hfu]; exact ⟨rfl, hP⟩))
        · refine lv_iload hx hb dX4_offer_48 (lv_at hl 0 rfl) ?_
          exact xiret hx hb hr hlk hS dX4_offer_50 ((by rw [of_told (L := ((n, e0), fB, fP, fX, fS, fL)) hB c_45]; exact ⟨rfl, hP⟩))
      · exact absurd (by decide) c_25
  · refine xgoI (xrunS (As := [.long p1, .int e1, .int s1, .int l1]) (rest := [.ref (h 0)]) ⟨hx, hb, hml, hown, hts⟩ (mX4_isBatch l s.heap.size p1 e1 s1 l1) (va_cwS 4 hts (lw_S q339 q340 q14 q341) rfl rfl rfl (by decide +kernel) ⟨Nat.le_of_ble_eq_true rfl, Nat.le_of_ble_eq_true rfl⟩) ⟨sPre_bl, fun U hU hW => ⟨rfl, congrArg Array.size hU⟩⟩ rfl rfl hl.1 rfl (lv_room (Nat.le_of_ble_eq_true rfl)) dX4_offer_7 ⟨Nat.le_of_ble_eq_true rfl, Nat.le_of_ble_eq_true rfl⟩) hS (fun q _ h => Or.inr (Nat.le_trans hS.1 h)) (fun q h => Or.inr (Nat.le_trans hS.1 h)) (fun H locs _ hz hk hS => ?_)
    have hP := sA_keep hP hk
    refine xi_eq 0 (if_neg hB) ?_
    refine lv_if_eq (tgt := 17) hx hb dX4_offer_10 (by decide) (fun c_10 => ?_) (fun c_10 => ?_)
    · refine lv_iconst (v := 1) hx hb dX4_offer_17 (by decide) ?_
      refine va_put (D := Y.1) (ci := 3) (v := .int 1) (ty := .int) (C := RX4) (T := TX4) (N := 8) hx hb hts in_X4 tyX4 tyX4_ok nmX4 hown hK hP (md_D hh) hS 0 rfl rfl 0 (by decide) (hts _ q306) (fun _ h9 => h9) rfl (by decide +kernel) rfl rfl (Nat.le_of_ble_eq_true rfl) dX4_offer_18 (fun H locs hP _ hS => ?_)
      have hP : mH Y h ((n, e0), fB, fP, fX, fS, fL) 1 H := hP
      refine lv_aload_n hx hb dX4_offer_21 rfl (lv_at hl 0 rfl) ?_
      refine va_get (D := Y.1) (ci := 3) (v := .int 1) (C := RX4) (T := TX4) (N := 8) hx hb hts in_X4 hown hK hP 0 rfl rfl 0 (by decide) (hts _ q306) (fun _ h9 => h9) rfl dX4_offer_22 ?_
      refine lv_if_le (tgt := 30) hx hb dX4_offer_25 (by decide) (fun c_25 => ?_) (fun c_25 => ?_)
      · exact absurd c_25 (by decide)
      · refine lv_iconst (v := 0) hx hb dX4_offer_28 (by decide) ?_
        exact xiret hx hb hr hlk hS dX4_offer_29 ((by rw [of_bad (L := ((n, e0), fB, fP, fX, fS, fL)) hB]; exact ⟨rfl, hP⟩))
    · exact absurd (rfl) c_10
set_option maxHeartbeats 4000000 in
theorem mX4_offers (l : Launch) (Y : YT) (h : Nat → Nat) (hh : aD 6 h) (sz : Nat) (L : Lg) (cd : Int32) (n1 : Int32) (p1 : Int64) (e1 s1 l1 : Int32) (hlg : LogOK L) : XMet l yX4_offers (ws_ yX4_offers cX4_offers 10 (some .int)) ({ frames := 2, cells := 0, slots := 0, locals := 53 }) (mPre Y h L cd sz [.ref (h 0), .int n1, .long p1, .int e1, .int s1, .int l1]) (xQ (pI (osR L n1 p1 e1 s1 l1).2.1 (mH Y h (osR L n1 p1 e1 s1 l1).2.2 (osR L n1 p1 e1 s1 l1).1)) (aA 6 h sz)) 0 0 (aA 6 h sz) := by
  refine XMet.ofW (cc := cX4_offers) (maxL := 10) (ret := (some .int)) (by decide) rfl ?_
  intro p e s m args below meth c s₁ B hml hno hv
  obtain ⟨rfl, hsz, hP, hYK⟩ := hv
  obtain ⟨⟨n, e0⟩, fB, fP, fX, fS, fL⟩ := L
  have hx := B.exec
  have hb := B.bytes
  have hr := B.returns
  have hlk := B.notSynchronized
  have hts := atoms_spec (ws := ws_ yX4_offers cX4_offers 10 (some .int)) B.pre
  have hts : ∀ w ∈ lw_all, w.before _ s = true := fun w h => hts w (List.mem_cons_of_mem _ h)
  have hown : s.vm.findClass RX4 = some m.cls := findClass_of_methodNamed B.named
  subst hsz
  have hK := hYK.1
  have hP0 := hP
  have hS : va_S (aA 6 h s.heap.size) s.heap s.heap [] := va_S.rf
  have hl := lv_entry [.ref (h 0), .int n1, .long p1, .int e1, .int s1, .int l1] (n := 10) (Nat.le_of_ble_eq_true rfl)
  rw [lg_entry_eq]
  generalize (lg_sl [.ref (h 0), .int n1, .long p1, .int e1, .int s1, .int l1] ++ List.replicate (10 - (lg_sl [.ref (h 0), .int n1, .long p1, .int e1, .int s1, .int l1]).length) Slot.unset).toArray = ls at hl ⊢
  have hl : lv_has ls 10 [(0, .ref (h 0)), (1, .int n1), (2, .long p1), (4, .int e1), (5, .int s1), (6, .int l1)] := hl
  have hn : n ≤ 2000 := hlg.1
  refine lv_aload_n hx hb dX4_offers_0 rfl (lv_at hl 0 rfl) ?_
  refine lv_lload_n hx hb dX4_offers_1 rfl (lv_at hl 2 rfl) ?_
  refine lv_iload hx hb dX4_offers_2 (lv_at hl 3 rfl) ?_
  refine lv_iload hx hb dX4_offers_4 (lv_at hl 4 rfl) ?_
  refine lv_iload hx hb dX4_offers_6 (lv_at hl 5 rfl) ?_
  by_cases hB : okB p1 e1 s1 l1
  · refine xgoI (xrunS (As := [.long p1, .int e1, .int s1, .int l1]) (rest := [.ref (h 0)]) ⟨hx, hb, hml, hown, hts⟩ (mX4_isBatch l s.heap.size p1 e1 s1 l1) (va_cwS 4 hts (lw_S q339 q340 q14 q341) rfl rfl rfl (by decide +kernel) ⟨Nat.le_of_ble_eq_true rfl, Nat.le_of_ble_eq_true rfl⟩) ⟨sPre_bl, fun U hU hW => ⟨rfl, congrArg Array.size hU⟩⟩ rfl rfl hl.1 rfl (lv_room (Nat.le_of_ble_eq_true rfl)) dX4_offers_8 ⟨Nat.le_of_ble_eq_true rfl, Nat.le_of_ble_eq_true rfl⟩) hS (fun q _ h => Or.inr (Nat.le_trans hS.1 h)) (fun q h => Or.inr (Nat.le_trans hS.1 h)) (fun H locs _ hz hk hS => ?_)
    have hP := sA_keep hP hk
    refine xi_eq 1 (if_pos hB) ?_
    refine lv_if_eq (tgt := 26) hx hb dX4_offers_11 (by decide) (fun c_11 => ?_) (fun c_11 => ?_)
    · exact absurd c_11 (by decide)
    · refine lv_iload_n hx hb dX4_offers_14 rfl (lv_at hl 1 rfl) ?_
      refine lv_iconst (v := 1) hx hb dX4_offers_15 (by decide) ?_
      refine lv_icmp_lt (tgt := 26) hx hb dX4_offers_16 (by decide) (fun c_16 => ?_) (fun c_16 => ?_)
      · refine lv_iconst (v := 1) hx hb dX4_offers_26 (by decide) ?_
        refine lv_goto (tgt := 63) hx hb dX4_offers_27 (by decide) ?_
        refine va_put (D := Y.1) (ci := 3) (v := .int 1) (ty := .int) (C := RX4) (T := TX4) (N := 8) hx hb hts in_X4 tyX4 tyX4_ok nmX4 hown hK hP (md_D hh) hS 0 rfl rfl 0 (by decide) (hts _ q306) (fun _ h9 => h9) rfl (by decide +kernel) rfl rfl (Nat.le_of_ble_eq_true rfl) dX4_offers_63 (fun H locs hP _ hS => ?_)
        have hP : mH Y h ((n, e0), fB, fP, fX, fS, fL) 1 H := hP
        refine lv_aload_n hx hb dX4_offers_66 rfl (lv_at hl 0 rfl) ?_
        refine va_get (D := Y.1) (ci := 3) (v := .int 1) (C := RX4) (T := TX4) (N := 8) hx hb hts in_X4 hown hK hP 0 rfl rfl 0 (by decide) (hts _ q306) (fun _ h9 => h9) rfl dX4_offers_67 ?_
        refine lv_if_le (tgt := 75) hx hb dX4_offers_70 (by decide) (fun c_70 => ?_) (fun c_70 => ?_)
        · exact absurd c_70 (by decide)
        · refine lv_iconst (v := 0) hx hb dX4_offers_73 (by decide) ?_
          exact xiret hx hb hr hlk hS dX4_offers_74 ((by rw [os_bad (L := ((n, e0), fB, fP, fX, fS, fL)) (Or.inr (Or.inl c_16))]; exact ⟨rfl, hP⟩))
      · refine lv_iload_n hx hb dX4_offers_19 rfl (lv_at hl 1 rfl) ?_
        refine lv_sipush (v := 500) hx hb dX4_offers_20 (by decide) ?_
        refine lv_icmp_le (tgt := 30) hx hb dX4_offers_23 (by decide) (fun c_23 => ?_) (fun c_23 => ?_)
        · refine lv_aload_n hx hb dX4_offers_30 rfl (lv_at hl 0 rfl) ?_
          refine va_get (D := Y.1) (ci := 3) (v := .int (nI n)) (C := RX4) (T := TX4) (N := 8) hx hb hts in_X4 hown hK hP 0 rfl rfl 1 (by decide) (hts _ q307) (fun _ h9 => h9) rfl dX4_offers_31 ?_
          refine lv_iload_n hx hb dX4_offers_34 rfl (lv_at hl 1 rfl) ?_
          refine lv_iadd hx hb dX4_offers_35 ?_
          refine lv_sipush (v := 2000) hx hb dX4_offers_36 (by decide) ?_
          refine lv_icmp_gt (tgt := 58) hx hb dX4_offers_39 (by decide) (fun c_39 => ?_) (fun c_39 => ?_)
          · refine lv_iconst (v := 2) hx hb dX4_offers_58 (by decide) ?_
            refine lv_goto (tgt := 63) hx hb dX4_offers_59 (by decide) ?_
            refine va_put (D := Y.1) (ci := 3) (v := .int 2) (ty := .int) (C := RX4) (T := TX4) (N := 8) hx hb hts in_X4 tyX4 tyX4_ok nmX4 hown hK hP (md_D hh) hS 0 rfl rfl 0 (by decide) (hts _ q306) (fun _ h9 => h9) rfl (by decide +kernel) rfl rfl (Nat.le_of_ble_eq_true rfl) dX4_offers_63 (fun H locs hP _ hS => ?_)
            have hP : mH Y h ((n, e0), fB, fP, fX, fS, fL) 2 H := hP
            refine lv_aload_n hx hb dX4_offers_66 rfl (lv_at hl 0 rfl) ?_
            refine va_get (D := Y.1) (ci := 3) (v := .int 2) (C := RX4) (T := TX4) (N := 8) hx hb hts in_X4 hown hK hP 0 rfl rfl 0 (by decide) (hts _ q306) (fun _ h9 => h9) rfl dX4_offers_67 ?_
            refine lv_if_le (tgt := 75) hx hb dX4_offers_70 (by decide) (fun c_70 => ?_) (fun c_70 => ?_)
            · exact absurd c_70 (by decide)
            · refine lv_iconst (v := 0) hx hb dX4_offers_73 (by decide) ?_
              exact xiret hx hb hr hlk hS dX4_offers_74 ((by rw [os_full (L := ((n, e0), fB, fP, fX, fS, fL)) hB c_16 (i32_le.mpr c_23) (Or.inl c_39)]; exact ⟨rfl, hP⟩))
          · refine lv_aload_n hx hb dX4_offers_42 rfl (lv_at hl 0 rfl) ?_
            refine va_get (D := Y.1) (ci := 3) (v := .int e0) (C := RX4) (T := TX4) (N := 8) hx hb hts in_X4 hown hK hP 0 rfl rfl 2 (by decide) (hts _ q308) (fun _ h9 => h9) rfl dX4_offers_43 ?_
            refine lv_iload_n hx hb dX4_offers_46 rfl (lv_at hl 1 rfl) ?_
            refine lv_iload hx hb dX4_offers_47 (lv_at hl 5 rfl) ?_
            refine lv_iconst (v := 1) hx hb dX4_offers_49 (by decide) ?_
            refine lv_iadd hx hb dX4_offers_50 ?_
            refine lv_imul hx hb dX4_offers_51 ?_
            refine lv_iadd hx hb dX4_offers_52 ?_
            refine lv_ldc hx hb hown (hts _ q355) dX4_offers_53 ?_
            refine lv_icmp_le (tgt := 62) hx hb dX4_offers_55 (by decide) (fun c_55 => ?_) (fun c_55 => ?_)
            · have hfu : ¬ osFull ((n, e0), fB, fP, fX, fS, fL) n1 l1 := fun z => z.elim (fun y => c_39 y) (fun y => i32_le.mpr c_55 y)
              obtain ⟨N, hN, hN2, rfl⟩ := n_nat c_16 (i32_le.mpr c_23)
              refine lv_iconst (v := 0) hx hb dX4_offers_62 (by decide) ?_
              refine va_put (D := Y.1) (ci := 3) (v := .int 0) (ty := .int) (C := RX4) (T := TX4) (N := 8) hx hb hts in_X4 tyX4 tyX4_ok nmX4 hown hK hP (md_D hh) hS 0 rfl rfl 0 (by decide) (hts _ q306) (fun _ h9 => h9) rfl (by decide +kernel) rfl rfl (Nat.le_of_ble_eq_true rfl) dX4_offers_63 (fun H locs hP _ hS => ?_)
              have hP : mH Y h ((n, e0), fB, fP, fX, fS, fL) 0 H := hP
              refine lv_aload_n hx hb dX4_offers_66 rfl (lv_at hl 0 rfl) ?_
              refine va_get (D := Y.1) (ci := 3) (v := .int 0) (C := RX4) (T := TX4) (N := 8) hx hb hts in_X4 hown hK hP 0 rfl rfl 0 (by decide) (hts _ q306) (fun _ h9 => h9) rfl dX4_offers_67 ?_
              refine lv_if_le (tgt := 75) hx hb dX4_offers_70 (by decide) (fun c_70 => ?_) (fun c_70 => ?_)
              · refine lv_aload_n hx hb dX4_offers_75 rfl (lv_at hl 0 rfl) ?_
                refine va_get (D := Y.1) (ci := 3) (v := .int (nI n)) (C := RX4) (T := TX4) (N := 8) hx hb hts in_X4 hown hK hP 0 rfl rfl 1 (by decide) (hts _ q307) (fun _ h9 => h9) rfl dX4_offers_76 ?_
                refine lv_istore (lv' := [(7, .int (nI n)), (0, .ref (h 0)), (1, .int (nI N)), (2, .long p1), (4, .int e1), (5, .int s1), (6, .int l1)]) hx hb dX4_offers_79 hl (by decide) rfl (fun ls hl => ?_)
                refine lv_iload hx hb dX4_offers_81 (lv_at hl 5 rfl) ?_
                refine lv_istore (lv' := [(8, .int s1), (7, .int (nI n)), (0, .ref (h 0)), (1, .int (nI N)), (2, .long p1), (4, .int e1), (5, .int s1), (6, .int l1)]) hx hb dX4_offers_83 hl (by decide) rfl (fun ls hl => ?_)
                refine lv_iconst (v := 0) hx hb dX4_offers_85 (by decide) ?_
                refine xi_eq (nI 0) (nI_0.symm) ?_
                refine lv_istore (lv' := [(9, .int (nI 0)), (8, .int s1), (7, .int (nI n)), (0, .ref (h 0)), (1, .int (nI N)), (2, .long p1), (4, .int e1), (5, .int s1), (6, .int l1)]) hx hb dX4_offers_86 hl (by decide) rfl (fun ls hl => ?_)
                have loop : ∀ (k j : Nat) (L2 : Lg) (x2 : Int32) (c2 : Nat), j + k = N → osL ((n, e0), fB, fP, fX, fS, fL) p1 e1 s1 l1 j = (L2, x2, c2) → ∀ (H : Heap) (locs : List Loc), mH Y h L2 0 H → va_S (aA 6 h s.heap.size) s.heap H locs → ∀ (ls : Array Slot), lv_has ls 10 [(9, .int (nI j)), (8, .int x2), (7, .int (nI n)), (0, .ref (h 0)), (1, .int (nI N)), (2, .long p1), (4, .int e1), (5, .int s1), (6, .int l1)] → W p l e (headSpec (ws_ yX4_offers cX4_offers 10 (some .int)) ({ frames := 2, cells := 0, slots := 0, locals := 53 })).room s m ([.ref (h 0), .int (nI N), .long p1, .int e1, .int s1, .int l1] : List Value).toArray below meth c H locs (0 + 0) (0 + 0) (XMQ below (xQ (pI (osR ((n, e0), fB, fP, fX, fS, fL) (nI N) p1 e1 s1 l1).2.1 (mH Y h (osR ((n, e0), fB, fP, fX, fS, fL) (nI N) p1 e1 s1 l1).2.2 (osR ((n, e0), fB, fP, fX, fS, fL) (nI N) p1 e1 s1 l1).1)) (aA 6 h s.heap.size)) ([.ref (h 0), .int (nI N), .long p1, .int e1, .int s1, .int l1] : List Value).toArray s 0 0 (aA 6 h s.heap.size)) (F0 m 88 ls []) := by
                  intro k
                  induction k with
                  | zero =>
                    intro j L2 x2 c2 hj hos H locs hP hS ls hl
                    have hinv := os_inv (L := ((n, e0), fB, fP, fX, fS, fL)) hN2 hlg hB hfu j (by omega)
                    rw [hos] at hinv
                    obtain ⟨i1, i2, i3, i4, i5, i6⟩ := hinv
                    dsimp only at i1 i2 i3 i4 i6
                    obtain ⟨⟨n2, e2⟩, gB2, gP2, gX2, gS2, gL2⟩ := L2
                    have i3 : n2 = n + c2 := i3
                    refine lv_iload hx hb dX4_offers_88 (lv_at hl 0 rfl) ?_
                    refine lv_iload_n hx hb dX4_offers_90 rfl (lv_at hl 4 rfl) ?_
                    refine lv_icmp_ge (tgt := 145) hx hb dX4_offers_91 (by decide) (fun c_91 => ?_) (fun c_91 => ?_)
                    · refine lv_aload_n hx hb dX4_offers_145 rfl (lv_at hl 3 rfl) ?_
                      refine va_get (D := Y.1) (ci := 3) (v := .int (nI n2)) (C := RX4) (T := TX4) (N := 8) hx hb hts in_X4 hown hK hP 0 rfl rfl 1 (by decide) (hts _ q307) (fun _ h9 => h9) rfl dX4_offers_146 ?_
                      refine lv_iload hx hb dX4_offers_149 (lv_at hl 2 rfl) ?_
                      refine lv_isub hx hb dX4_offers_151 ?_
                      refine xi_eq (nI c2) (by rw [pk_sub (by omega)]; congr 1; omega) ?_
                      exact xiret hx hb hr hlk hS dX4_offers_152 ((by rw [os_run (L := ((n, e0), fB, fP, fX, fS, fL)) hB hN hN2 hfu, show N = j by omega, hos]; exact ⟨rfl, hP⟩))
                    · exact absurd ((nI_le (by omega) (by omega) : nI N ≤ nI j)) c_91
                  | succ k ih =>
                    intro j L2 x2 c2 hj hos H locs hP hS ls hl
                    have hinv := os_inv (L := ((n, e0), fB, fP, fX, fS, fL)) hN2 hlg hB hfu j (by omega)
                    rw [hos] at hinv
                    obtain ⟨i1, i2, i3, i4, i5, i6⟩ := hinv
                    dsimp only at i1 i2 i3 i4 i6
                    obtain ⟨⟨n2, e2⟩, gB2, gP2, gX2, gS2, gL2⟩ := L2
                    have i3 : n2 = n + c2 := i3
                    have i6 : n2 < 2000 := i6 (by omega)
                    obtain ⟨-, -, ⟨q2, hq2, eq2⟩, hs2⟩ := okB_nar i2
                    refine lv_iload hx hb dX4_offers_88 (lv_at hl 0 rfl) ?_
                    refine lv_iload_n hx hb dX4_offers_90 rfl (lv_at hl 4 rfl) ?_
                    refine lv_icmp_ge (tgt := 145) hx hb dX4_offers_91 (by decide) (fun c_91 => ?_) (fun c_91 => ?_)
                    · exact absurd c_91 ((fun z => absurd ((nI_leI (a := N) (b := j) (by omega) (by omega)).mp z) (by omega)))
                    · refine lv_aload_n hx hb dX4_offers_94 rfl (lv_at hl 3 rfl) ?_
                      refine lv_lload_n hx hb dX4_offers_95 rfl (lv_at hl 5 rfl) ?_
                      refine lv_iload hx hb dX4_offers_96 (lv_at hl 6 rfl) ?_
                      refine lv_iload hx hb dX4_offers_98 (lv_at hl 1 rfl) ?_
                      refine lv_iload hx hb dX4_offers_100 (lv_at hl 8 rfl) ?_
                      refine xgoI (xrunV (As := [.long p1, .int e1, .int x2, .int l1]) (rest := []) ⟨hx, hb, hml, hown, hts⟩ (mX4_judged l Y h hh H.size ((n2, e2), gB2, gP2, gX2, gS2, gL2) _ p1 e1 x2 l1 i1) (cwV 4 hts (lw_V q343 q345 qs4 q14 q346) rfl rfl rfl (by decide +kernel) ⟨Nat.le_of_ble_eq_true rfl, Nat.le_of_ble_eq_true rfl⟩) ⟨mPre_bl, va_recv hK hP (ci := 3) (q0 := 0) rfl rfl, fun U hU hW => ⟨rfl, by rw [hU], by rw [hU]; exact hP, hYK.moved hW.alike⟩⟩ rfl rfl hl.1 rfl (lv_room (Nat.le_of_ble_eq_true rfl)) dX4_offers_102 ⟨Nat.le_of_ble_eq_true rfl, Nat.le_of_ble_eq_true rfl⟩) hS (fun q _ h => aA.le hS.1 h) (fun q h => aA.le hS.1 h) (fun H locs hP hz hk hS => ?_)
                      refine lv_iconst (v := (-1)) hx hb dX4_offers_105 (by decide) ?_
                      refine lv_icmp_ne (tgt := 120) hx hb dX4_offers_106 (by decide) (fun c_106 => ?_) (fun c_106 => ?_)
                      · refine lv_lload_n hx hb dX4_offers_120 rfl (lv_at hl 5 rfl) ?_
                        refine lv_lconst (v := 0) hx hb dX4_offers_121 (by decide) ?_
                        refine W.lcmp hx hb dX4_offers_122 ?_
                        refine lv_if_ge (tgt := 130) hx hb dX4_offers_123 (by decide) (fun c_123 => ?_) (fun c_123 => ?_)
                        · rw [lg_cmp_ge] at c_123
                          have hpp : ¬ p1 = -1 := (ge_m1 i2.1.2.2).mp c_123
                          obtain ⟨S2, hS2, eS2⟩ := nI_of (i32_le.mpr (hs2 hpp))
                          refine lv_iload hx hb dX4_offers_130 (lv_at hl 1 rfl) ?_
                          refine xi_eq (nI S2) (eS2) ?_
                          refine lv_iload hx hb dX4_offers_132 (lv_at hl 8 rfl) ?_
                          refine xi_eq (nI q2) (eq2) ?_
                          refine xgoI (xrunS (As := [.int (nI S2), .int (nI q2)]) (rest := []) ⟨hx, hb, hml, hown, hts⟩ (mX4_after l H.size S2 q2 hS2 hq2) (va_cwS 2 hts (lw_S q351 q352 q14 q353) rfl rfl rfl (by decide +kernel) ⟨Nat.le_of_ble_eq_true rfl, Nat.le_of_ble_eq_true rfl⟩) ⟨sPre_bl, fun U hU hW => ⟨rfl, congrArg Array.size hU⟩⟩ rfl rfl hl.1 rfl (lv_room (Nat.le_of_ble_eq_true rfl)) dX4_offers_134 ⟨Nat.le_of_ble_eq_true rfl, Nat.le_of_ble_eq_true rfl⟩) hS (fun q _ h => Or.inr (Nat.le_trans hS.1 h)) (fun q h => Or.inr (Nat.le_trans hS.1 h)) (fun H locs _ hz hk hS => ?_)
                          have hP := sA_keep hP hk
                          refine xi_eq (aft x2 l1) (by rw [eS2, eq2]) ?_
                          refine lv_istore (lv' := [(8, .int (aft x2 l1)), (9, .int (nI j)), (7, .int (nI n)), (0, .ref (h 0)), (1, .int (nI N)), (2, .long p1), (4, .int e1), (5, .int s1), (6, .int l1)]) hx hb dX4_offers_137 hl (by decide) rfl (fun ls hl => ?_)
                          refine lv_iinc (v := nI (j + 1)) (lv' := [(9, .int (nI (j + 1))), (8, .int (aft x2 l1)), (7, .int (nI n)), (0, .ref (h 0)), (1, .int (nI N)), (2, .long p1), (4, .int e1), (5, .int s1), (6, .int l1)]) hx hb dX4_offers_139 hl (k := 1) rfl (inc1 _) (by decide) rfl (fun ls hl => ?_)
                          refine lv_goto (tgt := 88) hx hb dX4_offers_142 (by decide) ?_
                          exact ih (j + 1) _ _ _ (by omega) (by rw [os_miss (L := ((n, e0), fB, fP, fX, fS, fL)) (by rw [hos]; exact c_106), hos]; unfold nxt; rw [if_neg hpp]) _ _ hP hS ls (lv_sub hl [0, 1, 2, 3, 4, 5, 6, 7, 8] rfl)
                        · rw [lg_cmp_ge] at c_123
                          have hpp : p1 = -1 := Classical.byContradiction (fun z => c_123 ((ge_m1 i2.1.2.2).mpr z))
                          refine lv_iconst (v := (-1)) hx hb dX4_offers_126 (by decide) ?_
                          refine lv_goto (tgt := 137) hx hb dX4_offers_127 (by decide) ?_
                          refine lv_istore (lv' := [(8, .int (-1)), (9, .int (nI j)), (7, .int (nI n)), (0, .ref (h 0)), (1, .int (nI N)), (2, .long p1), (4, .int e1), (5, .int s1), (6, .int l1)]) hx hb dX4_offers_137 hl (by decide) rfl (fun ls hl => ?_)
                          refine lv_iinc (v := nI (j + 1)) (lv' := [(9, .int (nI (j + 1))), (8, .int (-1)), (7, .int (nI n)), (0, .ref (h 0)), (1, .int (nI N)), (2, .long p1), (4, .int e1), (5, .int s1), (6, .int l1)]) hx hb dX4_offers_139 hl (k := 1) rfl (inc1 _) (by decide) rfl (fun ls hl => ?_)
                          refine lv_goto (tgt := 88) hx hb dX4_offers_142 (by decide) ?_
                          exact ih (j + 1) _ _ _ (by omega) (by rw [os_miss (L := ((n, e0), fB, fP, fX, fS, fL)) (by rw [hos]; exact c_106), hos]; unfold nxt; rw [if_pos hpp]) _ _ hP hS ls (lv_sub hl [0, 1, 2, 3, 4, 5, 6, 7, 8] rfl)
                      · refine lv_aload_n hx hb dX4_offers_109 rfl (lv_at hl 3 rfl) ?_
                        refine lv_lload_n hx hb dX4_offers_110 rfl (lv_at hl 5 rfl) ?_
                        refine lv_iload hx hb dX4_offers_111 (lv_at hl 6 rfl) ?_
                        refine lv_iload hx hb dX4_offers_113 (lv_at hl 1 rfl) ?_
                        refine lv_iload hx hb dX4_offers_115 (lv_at hl 8 rfl) ?_
                        refine xgoV (xrunV (As := [.long p1, .int e1, .int x2, .int l1]) (rest := []) ⟨hx, hb, hml, hown, hts⟩ (mX4_come l Y h hh H.size ((n2, e2), gB2, gP2, gX2, gS2, gL2) _ p1 e1 x2 l1 i6) (cwV 4 hts (lw_V q356 q358 qs6 q14 q359) rfl rfl rfl (by decide +kernel) ⟨Nat.le_of_ble_eq_true rfl, Nat.le_of_ble_eq_true rfl⟩) ⟨mPre_bl, va_recv hK hP (ci := 3) (q0 := 0) rfl rfl, fun U hU hW => ⟨rfl, by rw [hU], by rw [hU]; exact hP, hYK.moved hW.alike⟩⟩ rfl rfl hl.1 rfl (lv_room (Nat.le_of_ble_eq_true rfl)) dX4_offers_117 ⟨Nat.le_of_ble_eq_true rfl, Nat.le_of_ble_eq_true rfl⟩) hS (fun q _ h => aA.le hS.1 h) (fun q h => aA.le hS.1 h) (fun H locs hP hz hk hS => ?_)
                        refine lv_lload_n hx hb dX4_offers_120 rfl (lv_at hl 5 rfl) ?_
                        refine lv_lconst (v := 0) hx hb dX4_offers_121 (by decide) ?_
                        refine W.lcmp hx hb dX4_offers_122 ?_
                        refine lv_if_ge (tgt := 130) hx hb dX4_offers_123 (by decide) (fun c_123 => ?_) (fun c_123 => ?_)
                        · rw [lg_cmp_ge] at c_123
                          have hpp : ¬ p1 = -1 := (ge_m1 i2.1.2.2).mp c_123
                          obtain ⟨S2, hS2, eS2⟩ := nI_of (i32_le.mpr (hs2 hpp))
                          refine lv_iload hx hb dX4_offers_130 (lv_at hl 1 rfl) ?_
                          refine xi_eq (nI S2) (eS2) ?_
                          refine lv_iload hx hb dX4_offers_132 (lv_at hl 8 rfl) ?_
                          refine xi_eq (nI q2) (eq2) ?_
                          refine xgoI (xrunS (As := [.int (nI S2), .int (nI q2)]) (rest := []) ⟨hx, hb, hml, hown, hts⟩ (mX4_after l H.size S2 q2 hS2 hq2) (va_cwS 2 hts (lw_S q351 q352 q14 q353) rfl rfl rfl (by decide +kernel) ⟨Nat.le_of_ble_eq_true rfl, Nat.le_of_ble_eq_true rfl⟩) ⟨sPre_bl, fun U hU hW => ⟨rfl, congrArg Array.size hU⟩⟩ rfl rfl hl.1 rfl (lv_room (Nat.le_of_ble_eq_true rfl)) dX4_offers_134 ⟨Nat.le_of_ble_eq_true rfl, Nat.le_of_ble_eq_true rfl⟩) hS (fun q _ h => Or.inr (Nat.le_trans hS.1 h)) (fun q h => Or.inr (Nat.le_trans hS.1 h)) (fun H locs _ hz hk hS => ?_)
                          have hP := sA_keep hP hk
                          refine xi_eq (aft x2 l1) (by rw [eS2, eq2]) ?_
                          refine lv_istore (lv' := [(8, .int (aft x2 l1)), (9, .int (nI j)), (7, .int (nI n)), (0, .ref (h 0)), (1, .int (nI N)), (2, .long p1), (4, .int e1), (5, .int s1), (6, .int l1)]) hx hb dX4_offers_137 hl (by decide) rfl (fun ls hl => ?_)
                          refine lv_iinc (v := nI (j + 1)) (lv' := [(9, .int (nI (j + 1))), (8, .int (aft x2 l1)), (7, .int (nI n)), (0, .ref (h 0)), (1, .int (nI N)), (2, .long p1), (4, .int e1), (5, .int s1), (6, .int l1)]) hx hb dX4_offers_139 hl (k := 1) rfl (inc1 _) (by decide) rfl (fun ls hl => ?_)
                          refine lv_goto (tgt := 88) hx hb dX4_offers_142 (by decide) ?_
                          exact ih (j + 1) _ _ _ (by omega) (by rw [os_hit (L := ((n, e0), fB, fP, fX, fS, fL)) (by rw [hos]; exact c_106), hos]; unfold nxt; rw [if_neg hpp]) _ _ hP hS ls (lv_sub hl [0, 1, 2, 3, 4, 5, 6, 7, 8] rfl)
                        · rw [lg_cmp_ge] at c_123
                          have hpp : p1 = -1 := Classical.byContradiction (fun z => c_123 ((ge_m1 i2.1.2.2).mpr z))
                          refine lv_iconst (v := (-1)) hx hb dX4_offers_126 (by decide) ?_
                          refine lv_goto (tgt := 137) hx hb dX4_offers_127 (by decide) ?_
                          refine lv_istore (lv' := [(8, .int (-1)), (9, .int (nI j)), (7, .int (nI n)), (0, .ref (h 0)), (1, .int (nI N)), (2, .long p1), (4, .int e1), (5, .int s1), (6, .int l1)]) hx hb dX4_offers_137 hl (by decide) rfl (fun ls hl => ?_)
                          refine lv_iinc (v := nI (j + 1)) (lv' := [(9, .int (nI (j + 1))), (8, .int (-1)), (7, .int (nI n)), (0, .ref (h 0)), (1, .int (nI N)), (2, .long p1), (4, .int e1), (5, .int s1), (6, .int l1)]) hx hb dX4_offers_139 hl (k := 1) rfl (inc1 _) (by decide) rfl (fun ls hl => ?_)
                          refine lv_goto (tgt := 88) hx hb dX4_offers_142 (by decide) ?_
                          exact ih (j + 1) _ _ _ (by omega) (by rw [os_hit (L := ((n, e0), fB, fP, fX, fS, fL)) (by rw [hos]; exact c_106), hos]; unfold nxt; rw [if_pos hpp]) _ _ hP hS ls (lv_sub hl [0, 1, 2, 3, 4, 5, 6, 7, 8] rfl)
                exact loop N 0 _ _ _ (by omega) rfl _ _ hP hS ls (lv_sub hl [0, 1, 2, 3, 4, 5, 6, 7, 8] rfl)
              · exact absurd (by decide) c_70
            · refine lv_iconst (v := 2) hx hb dX4_offers_58 (by decide) ?_
              refine lv_goto (tgt := 63) hx hb dX4_offers_59 (by decide) ?_
              refine va_put (D := Y.1) (ci := 3) (v := .int 2) (ty := .int) (C := RX4) (T := TX4) (N := 8) hx hb hts in_X4 tyX4 tyX4_ok nmX4 hown hK hP (md_D hh) hS 0 rfl rfl 0 (by decide) (hts _ q306) (fun _ h9 => h9) rfl (by decide +kernel) rfl rfl (Nat.le_of_ble_eq_true rfl) dX4_offers_63 (fun H locs hP _ hS => ?_)
              have hP : mH Y h ((n, e0), fB, fP, fX, fS, fL) 2 H := hP
              refine lv_aload_n hx hb dX4_offers_66 rfl (lv_at hl 0 rfl) ?_
              refine va_get (D := Y.1) (ci := 3) (v := .int 2) (C := RX4) (T := TX4) (N := 8) hx hb hts in_X4 hown hK hP 0 rfl rfl 0 (by decide) (hts _ q306) (fun _ h9 => h9) rfl dX4_offers_67 ?_
              refine lv_if_le (tgt := 75) hx hb dX4_offers_70 (by decide) (fun c_70 => ?_) (fun c_70 => ?_)
              · exact absurd c_70 (by decide)
              · refine lv_iconst (v := 0) hx hb dX4_offers_73 (by decide) ?_
                exact xiret hx hb hr hlk hS dX4_offers_74 ((by rw [os_full (L := ((n, e0), fB, fP, fX, fS, fL)) hB c_16 (i32_le.mpr c_23) (Or.inr (i32_lt.mp c_55))]; exact ⟨rfl, hP⟩))
        · refine lv_iconst (v := 1) hx hb dX4_offers_26 (by decide) ?_
          refine lv_goto (tgt := 63) hx hb dX4_offers_27 (by decide) ?_
          refine va_put (D := Y.1) (ci := 3) (v := .int 1) (ty := .int) (C := RX4) (T := TX4) (N := 8) hx hb hts in_X4 tyX4 tyX4_ok nmX4 hown hK hP (md_D hh) hS 0 rfl rfl 0 (by decide) (hts _ q306) (fun _ h9 => h9) rfl (by decide +kernel) rfl rfl (Nat.le_of_ble_eq_true rfl) dX4_offers_63 (fun H locs hP _ hS => ?_)
          have hP : mH Y h ((n, e0), fB, fP, fX, fS, fL) 1 H := hP
          refine lv_aload_n hx hb dX4_offers_66 rfl (lv_at hl 0 rfl) ?_
          refine va_get (D := Y.1) (ci := 3) (v := .int 1) (C := RX4) (T := TX4) (N := 8) hx hb hts in_X4 hown hK hP 0 rfl rfl 0 (by decide) (hts _ q306) (fun _ h9 => h9) rfl dX4_offers_67 ?_
          refine lv_if_le (tgt := 75) hx hb dX4_offers_70 (by decide) (fun c_70 => ?_) (fun c_70 => ?_)
          · exact absurd c_70 (by decide)
          · refine lv_iconst (v := 0) hx hb dX4_offers_73 (by decide) ?_
            exact xiret hx hb hr hlk hS dX4_offers_74 ((by rw [os_bad (L := ((n, e0), fB, fP, fX, fS, fL)) (Or.inr (Or.inr (i32_lt.mp c_23)))]; exact ⟨rfl, hP⟩))
  · refine xgoI (xrunS (As := [.long p1, .int e1, .int s1, .int l1]) (rest := [.ref (h 0)]) ⟨hx, hb, hml, hown, hts⟩ (mX4_isBatch l s.heap.size p1 e1 s1 l1) (va_cwS 4 hts (lw_S q339 q340 q14 q341) rfl rfl rfl (by decide +kernel) ⟨Nat.le_of_ble_eq_true rfl, Nat.le_of_ble_eq_true rfl⟩) ⟨sPre_bl, fun U hU hW => ⟨rfl, congrArg Array.size hU⟩⟩ rfl rfl hl.1 rfl (lv_room (Nat.le_of_ble_eq_true rfl)) dX4_offers_8 ⟨Nat.le_of_ble_eq_true rfl, Nat.le_of_ble_eq_true rfl⟩) hS (fun q _ h => Or.inr (Nat.le_trans hS.1 h)) (fun q h => Or.inr (Nat.le_trans hS.1 h)) (fun H locs _ hz hk hS => ?_)
    have hP := sA_keep hP hk
    refine xi_eq 0 (if_neg hB) ?_
    refine lv_if_eq (tgt := 26) hx hb dX4_offers_11 (by decide) (fun c_11 => ?_) (fun c_11 => ?_)
    · refine lv_iconst (v := 1) hx hb dX4_offers_26 (by decide) ?_
      refine lv_goto (tgt := 63) hx hb dX4_offers_27 (by decide) ?_
      refine va_put (D := Y.1) (ci := 3) (v := .int 1) (ty := .int) (C := RX4) (T := TX4) (N := 8) hx hb hts in_X4 tyX4 tyX4_ok nmX4 hown hK hP (md_D hh) hS 0 rfl rfl 0 (by decide) (hts _ q306) (fun _ h9 => h9) rfl (by decide +kernel) rfl rfl (Nat.le_of_ble_eq_true rfl) dX4_offers_63 (fun H locs hP _ hS => ?_)
      have hP : mH Y h ((n, e0), fB, fP, fX, fS, fL) 1 H := hP
      refine lv_aload_n hx hb dX4_offers_66 rfl (lv_at hl 0 rfl) ?_
      refine va_get (D := Y.1) (ci := 3) (v := .int 1) (C := RX4) (T := TX4) (N := 8) hx hb hts in_X4 hown hK hP 0 rfl rfl 0 (by decide) (hts _ q306) (fun _ h9 => h9) rfl dX4_offers_67 ?_
      refine lv_if_le (tgt := 75) hx hb dX4_offers_70 (by decide) (fun c_70 => ?_) (fun c_70 => ?_)
      · exact absurd c_70 (by decide)
      · refine lv_iconst (v := 0) hx hb dX4_offers_73 (by decide) ?_
        exact xiret hx hb hr hlk hS dX4_offers_74 ((by rw [os_bad (L := ((n, e0), fB, fP, fX, fS, fL)) (Or.inl hB)]; exact ⟨rfl, hP⟩))
    · exact absurd (rfl) c_11
end
section
/-! ProducerBookModel: drop, laterOnes, isKnown, thin (written by prog/model2.py) -/
set_option maxRecDepth 100000
set_option maxHeartbeats 4000000 in
theorem mX4_drop (l : Launch) (Y : YT) (h : Nat → Nat) (hh : aD 6 h) (sz : Nat) (L : Lg) (cd : Int32) (n1 : Int32) (hlg : LogOK L) : XMet l yX4_drop (ws_ yX4_drop cX4_drop 4 (some .int)) ({ frames := 1, cells := 0, slots := 0, locals := 22 }) (mPre Y h L cd sz [.ref (h 0), .int n1]) (xQ (pI (drR L n1).2.1 (mH Y h (drR L n1).2.2 (drR L n1).1)) (aA 6 h sz)) 0 0 (aA 6 h sz) := by
  refine XMet.ofW (cc := cX4_drop) (maxL := 4) (ret := (some .int)) (by decide) rfl ?_
  intro p e s m args below meth c s₁ B hml hno hv
  obtain ⟨rfl, hsz, hP, hYK⟩ := hv
  obtain ⟨⟨n, e0⟩, fB, fP, fX, fS, fL⟩ := L
  have hx := B.exec
  have hb := B.bytes
  have hr := B.returns
  have hlk := B.notSynchronized
  have hts := atoms_spec (ws := ws_ yX4_drop cX4_drop 4 (some .int)) B.pre
  have hts : ∀ w ∈ lw_all, w.before _ s = true := fun w h => hts w (List.mem_cons_of_mem _ h)
  have hown : s.vm.findClass RX4 = some m.cls := findClass_of_methodNamed B.named
  subst hsz
  have hK := hYK.1
  have hP0 := hP
  have hS : va_S (aA 6 h s.heap.size) s.heap s.heap [] := va_S.rf
  have hl := lv_entry [.ref (h 0), .int n1] (n := 4) (Nat.le_of_ble_eq_true rfl)
  rw [lg_entry_eq]
  generalize (lg_sl [.ref (h 0), .int n1] ++ List.replicate (4 - (lg_sl [.ref (h 0), .int n1]).length) Slot.unset).toArray = ls at hl ⊢
  have hl : lv_has ls 4 [(0, .ref (h 0)), (1, .int n1)] := hl
  have hn : n ≤ 2000 := hlg.1
  refine lv_aload_n hx hb dX4_drop_0 rfl (lv_at hl 0 rfl) ?_
  refine lv_iload_n hx hb dX4_drop_1 rfl (lv_at hl 1 rfl) ?_
  refine lv_if_lt (tgt := 12) hx hb dX4_drop_2 (by decide) (fun c_2 => ?_) (fun c_2 => ?_)
  · refine lv_iconst (v := 1) hx hb dX4_drop_12 (by decide) ?_
    refine lv_goto (tgt := 17) hx hb dX4_drop_13 (by decide) ?_
    refine va_put (D := Y.1) (ci := 3) (v := .int 1) (ty := .int) (C := RX4) (T := TX4) (N := 8) hx hb hts in_X4 tyX4 tyX4_ok nmX4 hown hK hP (md_D hh) hS 0 rfl rfl 0 (by decide) (hts _ q306) (fun _ h9 => h9) rfl (by decide +kernel) rfl rfl (Nat.le_of_ble_eq_true rfl) dX4_drop_17 (fun H locs hP _ hS => ?_)
    have hP : mH Y h ((n, e0), fB, fP, fX, fS, fL) 1 H := hP
    refine lv_aload_n hx hb dX4_drop_20 rfl (lv_at hl 0 rfl) ?_
    refine va_get (D := Y.1) (ci := 3) (v := .int 1) (C := RX4) (T := TX4) (N := 8) hx hb hts in_X4 hown hK hP 0 rfl rfl 0 (by decide) (hts _ q306) (fun _ h9 => h9) rfl dX4_drop_21 ?_
    refine lv_if_le (tgt := 29) hx hb dX4_drop_24 (by decide) (fun c_24 => ?_) (fun c_24 => ?_)
    · exact absurd c_24 (by decide)
    · refine lv_iconst (v := 0) hx hb dX4_drop_27 (by decide) ?_
      exact xiret hx hb hr hlk hS dX4_drop_28 ((by rw [dr_bad (L := ((n, e0), fB, fP, fX, fS, fL)) (Or.inl c_2)]; exact ⟨rfl, hP⟩))
  · refine lv_iload_n hx hb dX4_drop_5 rfl (lv_at hl 1 rfl) ?_
    refine lv_sipush (v := 2000) hx hb dX4_drop_6 (by decide) ?_
    refine lv_icmp_le (tgt := 16) hx hb dX4_drop_9 (by decide) (fun c_9 => ?_) (fun c_9 => ?_)
    · obtain ⟨N, hN, rfl⟩ := n_2000 c_2 (i32_le.mpr c_9)
      obtain ⟨g, hg⟩ : ∃ g, g = min N n := ⟨_, rfl⟩
      refine lv_iconst (v := 0) hx hb dX4_drop_16 (by decide) ?_
      refine va_put (D := Y.1) (ci := 3) (v := .int 0) (ty := .int) (C := RX4) (T := TX4) (N := 8) hx hb hts in_X4 tyX4 tyX4_ok nmX4 hown hK hP (md_D hh) hS 0 rfl rfl 0 (by decide) (hts _ q306) (fun _ h9 => h9) rfl (by decide +kernel) rfl rfl (Nat.le_of_ble_eq_true rfl) dX4_drop_17 (fun H locs hP _ hS => ?_)
      have hP : mH Y h ((n, e0), fB, fP, fX, fS, fL) 0 H := hP
      refine lv_aload_n hx hb dX4_drop_20 rfl (lv_at hl 0 rfl) ?_
      refine va_get (D := Y.1) (ci := 3) (v := .int 0) (C := RX4) (T := TX4) (N := 8) hx hb hts in_X4 hown hK hP 0 rfl rfl 0 (by decide) (hts _ q306) (fun _ h9 => h9) rfl dX4_drop_21 ?_
      refine lv_if_le (tgt := 29) hx hb dX4_drop_24 (by decide) (fun c_24 => ?_) (fun c_24 => ?_)
      · refine lv_iload_n hx hb dX4_drop_29 rfl (lv_at hl 1 rfl) ?_
        refine lv_aload_n hx hb dX4_drop_30 rfl (lv_at hl 0 rfl) ?_
        refine va_get (D := Y.1) (ci := 3) (v := .int (nI n)) (C := RX4) (T := TX4) (N := 8) hx hb hts in_X4 hown hK hP 0 rfl rfl 1 (by decide) (hts _ q307) (fun _ h9 => h9) rfl dX4_drop_31 ?_
        refine lv_icmp_ge (tgt := 41) hx hb dX4_drop_34 (by decide) (fun c_34 => ?_) (fun c_34 => ?_)
        · have hgn : g = n := by have := (nI_leI (a := n) (b := N) (by omega) (by omega)).mp c_34; omega
          refine lv_aload_n hx hb dX4_drop_41 rfl (lv_at hl 0 rfl) ?_
          refine va_get (D := Y.1) (ci := 3) (v := .int (nI n)) (C := RX4) (T := TX4) (N := 8) hx hb hts in_X4 hown hK hP 0 rfl rfl 1 (by decide) (hts _ q307) (fun _ h9 => h9) rfl dX4_drop_42 ?_
          refine xi_eq (nI g) (by rw [hgn]) ?_
          refine lv_istore_n (lv' := [(2, .int (nI g)), (0, .ref (h 0)), (1, .int (nI N))]) hx hb dX4_drop_45 rfl hl (by decide) rfl (fun ls hl => ?_)
          refine lv_iload_n hx hb dX4_drop_46 rfl (lv_at hl 0 rfl) ?_
          refine lv_istore_n (lv' := [(3, .int (nI g)), (2, .int (nI g)), (0, .ref (h 0)), (1, .int (nI N))]) hx hb dX4_drop_47 rfl hl (by decide) rfl (fun ls hl => ?_)
          have loop : ∀ (k j : Nat) (gB2 : Nat → Int32) (gP2 : Nat → Int64) (gX2 gS2 gL2 : Nat → Int32), j + k = n - g → drL ((n, e0), fB, fP, fX, fS, fL) g j = ((n, e0), gB2, gP2, gX2, gS2, gL2) → ∀ (H : Heap) (locs : List Loc), mH Y h ((n, e0), gB2, gP2, gX2, gS2, gL2) 0 H → va_S (aA 6 h s.heap.size) s.heap H locs → ∀ (ls : Array Slot), lv_has ls 4 [(3, .int (nI (g + j))), (2, .int (nI g)), (0, .ref (h 0)), (1, .int (nI N))] → W p l e (headSpec (ws_ yX4_drop cX4_drop 4 (some .int)) ({ frames := 1, cells := 0, slots := 0, locals := 22 })).room s m ([.ref (h 0), .int (nI N)] : List Value).toArray below meth c H locs 0 0 (XMQ below (xQ (pI (drR ((n, e0), fB, fP, fX, fS, fL) (nI N)).2.1 (mH Y h (drR ((n, e0), fB, fP, fX, fS, fL) (nI N)).2.2 (drR ((n, e0), fB, fP, fX, fS, fL) (nI N)).1)) (aA 6 h s.heap.size)) ([.ref (h 0), .int (nI N)] : List Value).toArray s 0 0 (aA 6 h s.heap.size)) (F0 m 48 ls []) := by
            intro k
            induction k with
            | zero =>
              intro j gB2 gP2 gX2 gS2 gL2 hj hdr H locs hP hS ls hl
              refine lv_iload_n hx hb dX4_drop_48 rfl (lv_at hl 0 rfl) ?_
              refine lv_aload_n hx hb dX4_drop_49 rfl (lv_at hl 2 rfl) ?_
              refine va_get (D := Y.1) (ci := 3) (v := .int (nI n)) (C := RX4) (T := TX4) (N := 8) hx hb hts in_X4 hown hK hP 0 rfl rfl 1 (by decide) (hts _ q307) (fun _ h9 => h9) rfl dX4_drop_50 ?_
              refine lv_icmp_ge (tgt := 70) hx hb dX4_drop_53 (by decide) (fun c_53 => ?_) (fun c_53 => ?_)
              · refine lv_aload_n hx hb dX4_drop_70 rfl (lv_at hl 2 rfl) ?_
                refine lv_dup hx hb dX4_drop_71 rfl ?_
                refine va_get (D := Y.1) (ci := 3) (v := .int (nI n)) (C := RX4) (T := TX4) (N := 8) hx hb hts in_X4 hown hK hP 0 rfl rfl 1 (by decide) (hts _ q307) (fun _ h9 => h9) rfl dX4_drop_72 ?_
                refine lv_iload_n hx hb dX4_drop_75 rfl (lv_at hl 1 rfl) ?_
                refine lv_isub hx hb dX4_drop_76 ?_
                refine xi_eq (nI (n - g)) (pk_sub (by omega)) ?_
                refine va_put (D := Y.1) (ci := 3) (v := .int (nI (n - g))) (ty := .int) (C := RX4) (T := TX4) (N := 8) hx hb hts in_X4 tyX4 tyX4_ok nmX4 hown hK hP (md_D hh) hS 0 rfl rfl 1 (by decide) (hts _ q307) (fun _ h9 => h9) rfl (by decide +kernel) rfl rfl (Nat.le_of_ble_eq_true rfl) dX4_drop_77 (fun H locs hP _ hS => ?_)
                have hP : mH Y h (((n - g), e0), gB2, gP2, gX2, gS2, gL2) 0 H := hP
                refine lv_iload_n hx hb dX4_drop_80 rfl (lv_at hl 1 rfl) ?_
                exact xiret hx hb hr hlk hS dX4_drop_81 ((by rw [dr_run (L := ((n, e0), fB, fP, fX, fS, fL)) hN, show min N (gN ((n, e0), fB, fP, fX, fS, fL)) = g from hg.symm, show gN ((n, e0), fB, fP, fX, fS, fL) - g = j by show n - g = j; omega, hdr]; exact ⟨rfl, by rw [show n - g = j by omega] at hP; exact hP⟩))
              · exact absurd ((nI_le (by omega) (by omega) : nI n ≤ nI (g + j))) c_53
            | succ k ih =>
              intro j gB2 gP2 gX2 gS2 gL2 hj hdr H locs hP hS ls hl
              refine lv_iload_n hx hb dX4_drop_48 rfl (lv_at hl 0 rfl) ?_
              refine lv_aload_n hx hb dX4_drop_49 rfl (lv_at hl 2 rfl) ?_
              refine va_get (D := Y.1) (ci := 3) (v := .int (nI n)) (C := RX4) (T := TX4) (N := 8) hx hb hts in_X4 hown hK hP 0 rfl rfl 1 (by decide) (hts _ q307) (fun _ h9 => h9) rfl dX4_drop_50 ?_
              refine lv_icmp_ge (tgt := 70) hx hb dX4_drop_53 (by decide) (fun c_53 => ?_) (fun c_53 => ?_)
              · exact absurd c_53 ((fun z => absurd ((nI_leI (a := n) (b := g + j) (by omega) (by omega)).mp z) (by omega)))
              · refine lv_aload_n hx hb dX4_drop_56 rfl (lv_at hl 2 rfl) ?_
                refine lv_iload_n hx hb dX4_drop_57 rfl (lv_at hl 0 rfl) ?_
                refine lv_iload_n hx hb dX4_drop_58 rfl (lv_at hl 0 rfl) ?_
                refine lv_iload_n hx hb dX4_drop_59 rfl (lv_at hl 1 rfl) ?_
                refine lv_isub hx hb dX4_drop_60 ?_
                refine xi_eq (nI j) (by rw [pk_sub (by omega), Nat.add_sub_cancel_left]) ?_
                refine xgoV (xrunV (As := [.int (nI (g + j)), .int (nI j)]) (rest := []) ⟨hx, hb, hml, hown, hts⟩ (mX4_copy l Y h hh H.size _ _ (g + j) j (by omega) (by omega)) (cwV 2 hts (lw_V q368 q370 qs7 q14 q371) rfl rfl rfl (by decide +kernel) ⟨Nat.le_of_ble_eq_true rfl, Nat.le_of_ble_eq_true rfl⟩) ⟨mPre_bl, va_recv hK hP (ci := 3) (q0 := 0) rfl rfl, fun U hU hW => ⟨rfl, by rw [hU], by rw [hU]; exact hP, hYK.moved hW.alike⟩⟩ rfl rfl hl.1 rfl (lv_room (Nat.le_of_ble_eq_true rfl)) dX4_drop_61 ⟨Nat.le_of_ble_eq_true rfl, Nat.le_of_ble_eq_true rfl⟩) hS (fun q _ h => aA.le hS.1 h) (fun q h => aA.le hS.1 h) (fun H locs hP hz hk hS => ?_)
                have hP : mH Y h ((n, e0), (upd gB2 j (gB2 (g + j))), (vp_updL gP2 j (gP2 (g + j))), (upd gX2 j (gX2 (g + j))), (upd gS2 j (gS2 (g + j))), (upd gL2 j (gL2 (g + j)))) 0 H := hP
                refine lv_iinc (v := nI ((g + j) + 1)) (lv' := [(3, .int (nI ((g + j) + 1))), (2, .int (nI g)), (0, .ref (h 0)), (1, .int (nI N))]) hx hb dX4_drop_64 hl (k := 0) rfl (inc1 _) (by decide) rfl (fun ls hl => ?_)
                refine lv_goto (tgt := 48) hx hb dX4_drop_67 (by decide) ?_
                exact ih (j + 1) _ _ _ _ _ (by omega) (by show lgMove (drL ((n, e0), fB, fP, fX, fS, fL) g j) (g + j) j = _; rw [hdr]; rfl) _ _ hP hS ls (lv_sub hl [0, 1, 2, 3] rfl)
          exact loop (n - g) 0 _ _ _ _ _ (by omega) rfl _ _ hP hS ls (lv_sub hl [0, 1, 2, 3] rfl)
        · have hgn : g = N := by have : ¬ n ≤ N := fun z => c_34 ((nI_leI (a := n) (b := N) (by omega) (by omega)).mpr z); omega
          refine lv_iload_n hx hb dX4_drop_37 rfl (lv_at hl 1 rfl) ?_
          refine xi_eq (nI g) (by rw [hgn]) ?_
          refine lv_goto (tgt := 45) hx hb dX4_drop_38 (by decide) ?_
          refine lv_istore_n (lv' := [(2, .int (nI g)), (0, .ref (h 0)), (1, .int (nI N))]) hx hb dX4_drop_45 rfl hl (by decide) rfl (fun ls hl => ?_)
          refine lv_iload_n hx hb dX4_drop_46 rfl (lv_at hl 0 rfl) ?_
          refine lv_istore_n (lv' := [(3, .int (nI g)), (2, .int (nI g)), (0, .ref (h 0)), (1, .int (nI N))]) hx hb dX4_drop_47 rfl hl (by decide) rfl (fun ls hl => ?_)
          have loop : ∀ (k j : Nat) (gB2 : Nat → Int32) (gP2 : Nat → Int64) (gX2 gS2 gL2 : Nat → Int32), j + k = n - g → drL ((n, e0), fB, fP, fX, fS, fL) g j = ((n, e0), gB2, gP2, gX2, gS2, gL2) → ∀ (H : Heap) (locs : List Loc), mH Y h ((n, e0), gB2, gP2, gX2, gS2, gL2) 0 H → va_S (aA 6 h s.heap.size) s.heap H locs → ∀ (ls : Array Slot), lv_has ls 4 [(3, .int (nI (g + j))), (2, .int (nI g)), (0, .ref (h 0)), (1, .int (nI N))] → W p l e (headSpec (ws_ yX4_drop cX4_drop 4 (some .int)) ({ frames := 1, cells := 0, slots := 0, locals := 22 })).room s m ([.ref (h 0), .int (nI N)] : List Value).toArray below meth c H locs 0 0 (XMQ below (xQ (pI (drR ((n, e0), fB, fP, fX, fS, fL) (nI N)).2.1 (mH Y h (drR ((n, e0), fB, fP, fX, fS, fL) (nI N)).2.2 (drR ((n, e0), fB, fP, fX, fS, fL) (nI N)).1)) (aA 6 h s.heap.size)) ([.ref (h 0), .int (nI N)] : List Value).toArray s 0 0 (aA 6 h s.heap.size)) (F0 m 48 ls []) := by
            intro k
            induction k with
            | zero =>
              intro j gB2 gP2 gX2 gS2 gL2 hj hdr H locs hP hS ls hl
              refine lv_iload_n hx hb dX4_drop_48 rfl (lv_at hl 0 rfl) ?_
              refine lv_aload_n hx hb dX4_drop_49 rfl (lv_at hl 2 rfl) ?_
              refine va_get (D := Y.1) (ci := 3) (v := .int (nI n)) (C := RX4) (T := TX4) (N := 8) hx hb hts in_X4 hown hK hP 0 rfl rfl 1 (by decide) (hts _ q307) (fun _ h9 => h9) rfl dX4_drop_50 ?_
              refine lv_icmp_ge (tgt := 70) hx hb dX4_drop_53 (by decide) (fun c_53 => ?_) (fun c_53 => ?_)
              · refine lv_aload_n hx hb dX4_drop_70 rfl (lv_at hl 2 rfl) ?_
                refine lv_dup hx hb dX4_drop_71 rfl ?_
                refine va_get (D := Y.1) (ci := 3) (v := .int (nI n)) (C := RX4) (T := TX4) (N := 8) hx hb hts in_X4 hown hK hP 0 rfl rfl 1 (by decide) (hts _ q307) (fun _ h9 => h9) rfl dX4_drop_72 ?_
                refine lv_iload_n hx hb dX4_drop_75 rfl (lv_at hl 1 rfl) ?_
                refine lv_isub hx hb dX4_drop_76 ?_
                refine xi_eq (nI (n - g)) (pk_sub (by omega)) ?_
                refine va_put (D := Y.1) (ci := 3) (v := .int (nI (n - g))) (ty := .int) (C := RX4) (T := TX4) (N := 8) hx hb hts in_X4 tyX4 tyX4_ok nmX4 hown hK hP (md_D hh) hS 0 rfl rfl 1 (by decide) (hts _ q307) (fun _ h9 => h9) rfl (by decide +kernel) rfl rfl (Nat.le_of_ble_eq_true rfl) dX4_drop_77 (fun H locs hP _ hS => ?_)
                have hP : mH Y h (((n - g), e0), gB2, gP2, gX2, gS2, gL2) 0 H := hP
                refine lv_iload_n hx hb dX4_drop_80 rfl (lv_at hl 1 rfl) ?_
                exact xiret hx hb hr hlk hS dX4_drop_81 ((by rw [dr_run (L := ((n, e0), fB, fP, fX, fS, fL)) hN, show min N (gN ((n, e0), fB, fP, fX, fS, fL)) = g from hg.symm, show gN ((n, e0), fB, fP, fX, fS, fL) - g = j by show n - g = j; omega, hdr]; exact ⟨rfl, by rw [show n - g = j by omega] at hP; exact hP⟩))
              · exact absurd ((nI_le (by omega) (by omega) : nI n ≤ nI (g + j))) c_53
            | succ k ih =>
              intro j gB2 gP2 gX2 gS2 gL2 hj hdr H locs hP hS ls hl
              refine lv_iload_n hx hb dX4_drop_48 rfl (lv_at hl 0 rfl) ?_
              refine lv_aload_n hx hb dX4_drop_49 rfl (lv_at hl 2 rfl) ?_
              refine va_get (D := Y.1) (ci := 3) (v := .int (nI n)) (C := RX4) (T := TX4) (N := 8) hx hb hts in_X4 hown hK hP 0 rfl rfl 1 (by decide) (hts _ q307) (fun _ h9 => h9) rfl dX4_drop_50 ?_
              refine lv_icmp_ge (tgt := 70) hx hb dX4_drop_53 (by decide) (fun c_53 => ?_) (fun c_53 => ?_)
              · exact absurd c_53 ((fun z => absurd ((nI_leI (a := n) (b := g + j) (by omega) (by omega)).mp z) (by omega)))
              · refine lv_aload_n hx hb dX4_drop_56 rfl (lv_at hl 2 rfl) ?_
                refine lv_iload_n hx hb dX4_drop_57 rfl (lv_at hl 0 rfl) ?_
                refine lv_iload_n hx hb dX4_drop_58 rfl (lv_at hl 0 rfl) ?_
                refine lv_iload_n hx hb dX4_drop_59 rfl (lv_at hl 1 rfl) ?_
                refine lv_isub hx hb dX4_drop_60 ?_
                refine xi_eq (nI j) (by rw [pk_sub (by omega), Nat.add_sub_cancel_left]) ?_
                refine xgoV (xrunV (As := [.int (nI (g + j)), .int (nI j)]) (rest := []) ⟨hx, hb, hml, hown, hts⟩ (mX4_copy l Y h hh H.size _ _ (g + j) j (by omega) (by omega)) (cwV 2 hts (lw_V q368 q370 qs7 q14 q371) rfl rfl rfl (by decide +kernel) ⟨Nat.le_of_ble_eq_true rfl, Nat.le_of_ble_eq_true rfl⟩) ⟨mPre_bl, va_recv hK hP (ci := 3) (q0 := 0) rfl rfl, fun U hU hW => ⟨rfl, by rw [hU], by rw [hU]; exact hP, hYK.moved hW.alike⟩⟩ rfl rfl hl.1 rfl (lv_room (Nat.le_of_ble_eq_true rfl)) dX4_drop_61 ⟨Nat.le_of_ble_eq_true rfl, Nat.le_of_ble_eq_true rfl⟩) hS (fun q _ h => aA.le hS.1 h) (fun q h => aA.le hS.1 h) (fun H locs hP hz hk hS => ?_)
                have hP : mH Y h ((n, e0), (upd gB2 j (gB2 (g + j))), (vp_updL gP2 j (gP2 (g + j))), (upd gX2 j (gX2 (g + j))), (upd gS2 j (gS2 (g + j))), (upd gL2 j (gL2 (g + j)))) 0 H := hP
                refine lv_iinc (v := nI ((g + j) + 1)) (lv' := [(3, .int (nI ((g + j) + 1))), (2, .int (nI g)), (0, .ref (h 0)), (1, .int (nI N))]) hx hb dX4_drop_64 hl (k := 0) rfl (inc1 _) (by decide) rfl (fun ls hl => ?_)
                refine lv_goto (tgt := 48) hx hb dX4_drop_67 (by decide) ?_
                exact ih (j + 1) _ _ _ _ _ (by omega) (by show lgMove (drL ((n, e0), fB, fP, fX, fS, fL) g j) (g + j) j = _; rw [hdr]; rfl) _ _ hP hS ls (lv_sub hl [0, 1, 2, 3] rfl)
          exact loop (n - g) 0 _ _ _ _ _ (by omega) rfl _ _ hP hS ls (lv_sub hl [0, 1, 2, 3] rfl)
      · exact absurd (by decide) c_24
    · refine lv_iconst (v := 1) hx hb dX4_drop_12 (by decide) ?_
      refine lv_goto (tgt := 17) hx hb dX4_drop_13 (by decide) ?_
      refine va_put (D := Y.1) (ci := 3) (v := .int 1) (ty := .int) (C := RX4) (T := TX4) (N := 8) hx hb hts in_X4 tyX4 tyX4_ok nmX4 hown hK hP (md_D hh) hS 0 rfl rfl 0 (by decide) (hts _ q306) (fun _ h9 => h9) rfl (by decide +kernel) rfl rfl (Nat.le_of_ble_eq_true rfl) dX4_drop_17 (fun H locs hP _ hS => ?_)
      have hP : mH Y h ((n, e0), fB, fP, fX, fS, fL) 1 H := hP
      refine lv_aload_n hx hb dX4_drop_20 rfl (lv_at hl 0 rfl) ?_
      refine va_get (D := Y.1) (ci := 3) (v := .int 1) (C := RX4) (T := TX4) (N := 8) hx hb hts in_X4 hown hK hP 0 rfl rfl 0 (by decide) (hts _ q306) (fun _ h9 => h9) rfl dX4_drop_21 ?_
      refine lv_if_le (tgt := 29) hx hb dX4_drop_24 (by decide) (fun c_24 => ?_) (fun c_24 => ?_)
      · exact absurd c_24 (by decide)
      · refine lv_iconst (v := 0) hx hb dX4_drop_27 (by decide) ?_
        exact xiret hx hb hr hlk hS dX4_drop_28 ((by rw [dr_bad (L := ((n, e0), fB, fP, fX, fS, fL)) (Or.inr (i32_lt.mp c_9))]; exact ⟨rfl, hP⟩))
set_option maxHeartbeats 4000000 in
theorem mX4_laterOnes (l : Launch) (Y : YT) (h : Nat → Nat) (hh : aD 6 h) (sz : Nat) (L : Lg) (cd : Int32) (k1 : Nat) (hk1 : k1 < gN L) (hn : gN L ≤ 2000) : XMet l yX4_laterOnes (ws_ yX4_laterOnes cX4_laterOnes 4 (some .int)) ({ frames := 0, cells := 0, slots := 0, locals := 0 }) (mPre Y h L cd sz [.ref (h 0), .int (nI k1)]) (xQ (pI (nI (ltr (gP L) k1 (gN L))) (mH Y h L cd)) (aA 6 h sz)) 0 0 (aA 6 h sz) := by
  refine XMet.ofW (cc := cX4_laterOnes) (maxL := 4) (ret := (some .int)) (by decide) rfl ?_
  intro p e s m args below meth c s₁ B hml hno hv
  obtain ⟨rfl, hsz, hP, hYK⟩ := hv
  obtain ⟨⟨n, e0⟩, fB, fP, fX, fS, fL⟩ := L
  have hx := B.exec
  have hb := B.bytes
  have hr := B.returns
  have hlk := B.notSynchronized
  have hts := atoms_spec (ws := ws_ yX4_laterOnes cX4_laterOnes 4 (some .int)) B.pre
  have hts : ∀ w ∈ lw_all, w.before _ s = true := fun w h => hts w (List.mem_cons_of_mem _ h)
  have hown : s.vm.findClass RX4 = some m.cls := findClass_of_methodNamed B.named
  subst hsz
  have hK := hYK.1
  have hP0 := hP
  have hS : va_S (aA 6 h s.heap.size) s.heap s.heap [] := va_S.rf
  have hl := lv_entry [.ref (h 0), .int (nI k1)] (n := 4) (Nat.le_of_ble_eq_true rfl)
  rw [lg_entry_eq]
  generalize (lg_sl [.ref (h 0), .int (nI k1)] ++ List.replicate (4 - (lg_sl [.ref (h 0), .int (nI k1)]).length) Slot.unset).toArray = ls at hl ⊢
  have hl : lv_has ls 4 [(0, .ref (h 0)), (1, .int (nI k1))] := hl
  have hn : n ≤ 2000 := hn
  have hk1 : k1 < n := hk1
  refine lv_iconst (v := 0) hx hb dX4_laterOnes_0 (by decide) ?_
  refine xi_eq (nI 0) (nI_0.symm) ?_
  refine lv_istore_n (lv' := [(2, .int (nI 0)), (0, .ref (h 0)), (1, .int (nI k1))]) hx hb dX4_laterOnes_1 rfl hl (by decide) rfl (fun ls hl => ?_)
  refine lv_iload_n hx hb dX4_laterOnes_2 rfl (lv_at hl 2 rfl) ?_
  refine lv_iconst (v := 1) hx hb dX4_laterOnes_3 (by decide) ?_
  refine lv_iadd hx hb dX4_laterOnes_4 ?_
  refine xi_eq (nI (k1 + 1)) (nI_1 k1) ?_
  refine lv_istore_n (lv' := [(3, .int (nI (k1 + 1))), (2, .int (nI 0)), (0, .ref (h 0)), (1, .int (nI k1))]) hx hb dX4_laterOnes_5 rfl hl (by decide) rfl (fun ls hl => ?_)
  have loop : ∀ (k j a2 : Nat), j + k = n → k1 + 1 ≤ j → a2 + cnt fP (fP k1) (k1 + 1) = cnt fP (fP k1) j → ∀ (H : Heap) (locs : List Loc), mH Y h ((n, e0), fB, fP, fX, fS, fL) cd H → va_S (aA 6 h s.heap.size) s.heap H locs → ∀ (ls : Array Slot), lv_has ls 4 [(3, .int (nI j)), (2, .int (nI a2)), (0, .ref (h 0)), (1, .int (nI k1))] → W p l e (headSpec (ws_ yX4_laterOnes cX4_laterOnes 4 (some .int)) ({ frames := 0, cells := 0, slots := 0, locals := 0 })).room s m ([.ref (h 0), .int (nI k1)] : List Value).toArray below meth c H locs 0 0 (XMQ below (xQ (pI (nI (ltr fP k1 n)) (mH Y h ((n, e0), fB, fP, fX, fS, fL) cd)) (aA 6 h s.heap.size)) ([.ref (h 0), .int (nI k1)] : List Value).toArray s 0 0 (aA 6 h s.heap.size)) (F0 m 6 ls []) := by
    intro k
    induction k with
    | zero =>
      intro j a2 hj hk1 ha H locs hP hS ls hl
      refine lv_iload_n hx hb dX4_laterOnes_6 rfl (lv_at hl 0 rfl) ?_
      refine lv_aload_n hx hb dX4_laterOnes_7 rfl (lv_at hl 2 rfl) ?_
      refine va_get (D := Y.1) (ci := 3) (v := .int (nI n)) (C := RX4) (T := TX4) (N := 8) hx hb hts in_X4 hown hK hP 0 rfl rfl 1 (by decide) (hts _ q307) (fun _ h9 => h9) rfl dX4_laterOnes_8 ?_
      refine lv_icmp_ge (tgt := 44) hx hb dX4_laterOnes_11 (by decide) (fun c_11 => ?_) (fun c_11 => ?_)
      · refine lv_iload_n hx hb dX4_laterOnes_44 rfl (lv_at hl 1 rfl) ?_
        exact xiret hx hb hr hlk hS dX4_laterOnes_45 (⟨ri (by unfold ltr; rw [show n = j by omega]; congr 1; omega), hP⟩)
      · exact absurd ((nI_le (by omega) (by omega) : nI n ≤ nI j)) c_11
    | succ k ih =>
      intro j a2 hj hk1 ha H locs hP hS ls hl
      refine lv_iload_n hx hb dX4_laterOnes_6 rfl (lv_at hl 0 rfl) ?_
      refine lv_aload_n hx hb dX4_laterOnes_7 rfl (lv_at hl 2 rfl) ?_
      refine va_get (D := Y.1) (ci := 3) (v := .int (nI n)) (C := RX4) (T := TX4) (N := 8) hx hb hts in_X4 hown hK hP 0 rfl rfl 1 (by decide) (hts _ q307) (fun _ h9 => h9) rfl dX4_laterOnes_8 ?_
      refine lv_icmp_ge (tgt := 44) hx hb dX4_laterOnes_11 (by decide) (fun c_11 => ?_) (fun c_11 => ?_)
      · exact absurd c_11 ((fun z => absurd ((nI_leI (a := n) (b := j) (by omega) (by omega)).mp z) (by omega)))
      · refine lv_iload_n hx hb dX4_laterOnes_14 rfl (lv_at hl 1 rfl) ?_
        refine lv_aload_n hx hb dX4_laterOnes_15 rfl (lv_at hl 2 rfl) ?_
        refine va_get (D := Y.1) (ci := 3) (v := .ref (h 2)) (C := RX4) (T := TX4) (N := 8) hx hb hts in_X4 hown hK hP 0 rfl rfl 4 (by decide) (hts _ q310) (fun _ h9 => h9) rfl dX4_laterOnes_16 ?_
        refine lv_iload_n hx hb dX4_laterOnes_19 rfl (lv_at hl 0 rfl) ?_
        refine y_lald hx hb hK hP 2 1 fP rfl rfl j (by omega) (by decide) dX4_laterOnes_20 ?_
        refine lv_aload_n hx hb dX4_laterOnes_21 rfl (lv_at hl 2 rfl) ?_
        refine va_get (D := Y.1) (ci := 3) (v := .ref (h 2)) (C := RX4) (T := TX4) (N := 8) hx hb hts in_X4 hown hK hP 0 rfl rfl 4 (by decide) (hts _ q310) (fun _ h9 => h9) rfl dX4_laterOnes_22 ?_
        refine lv_iload_n hx hb dX4_laterOnes_25 rfl (lv_at hl 3 rfl) ?_
        refine y_lald hx hb hK hP 2 1 fP rfl rfl k1 (by omega) (by decide) dX4_laterOnes_26 ?_
        refine W.lcmp hx hb dX4_laterOnes_27 ?_
        refine lv_if_ne (tgt := 35) hx hb dX4_laterOnes_28 (by decide) (fun c_28 => ?_) (fun c_28 => ?_)
        · rw [lg_cmp_eq] at c_28
          refine lv_iconst (v := 0) hx hb dX4_laterOnes_35 (by decide) ?_
          refine lv_iadd hx hb dX4_laterOnes_36 ?_
          refine xi_eq (nI a2) (Int32.add_zero _) ?_
          refine lv_istore_n (lv' := [(2, .int (nI a2)), (3, .int (nI j)), (0, .ref (h 0)), (1, .int (nI k1))]) hx hb dX4_laterOnes_37 rfl hl (by decide) rfl (fun ls hl => ?_)
          refine lv_iinc (v := nI (j + 1)) (lv' := [(3, .int (nI (j + 1))), (2, .int (nI a2)), (0, .ref (h 0)), (1, .int (nI k1))]) hx hb dX4_laterOnes_38 hl (k := 1) rfl (inc1 _) (by decide) rfl (fun ls hl => ?_)
          refine lv_goto (tgt := 6) hx hb dX4_laterOnes_41 (by decide) ?_
          exact ih (j + 1) _ (by omega) (by omega) (by rw [cnt_s _ _ _ c_28]; exact ha) _ _ hP hS ls (lv_sub hl [0, 1, 2, 3] rfl)
        · rw [lg_cmp_eq] at c_28
          refine lv_iconst (v := 1) hx hb dX4_laterOnes_31 (by decide) ?_
          refine lv_goto (tgt := 36) hx hb dX4_laterOnes_32 (by decide) ?_
          refine lv_iadd hx hb dX4_laterOnes_36 ?_
          refine xi_eq (nI (a2 + 1)) (nI_1 a2) ?_
          refine lv_istore_n (lv' := [(2, .int (nI (a2 + 1))), (3, .int (nI j)), (0, .ref (h 0)), (1, .int (nI k1))]) hx hb dX4_laterOnes_37 rfl hl (by decide) rfl (fun ls hl => ?_)
          refine lv_iinc (v := nI (j + 1)) (lv' := [(3, .int (nI (j + 1))), (2, .int (nI (a2 + 1))), (0, .ref (h 0)), (1, .int (nI k1))]) hx hb dX4_laterOnes_38 hl (k := 1) rfl (inc1 _) (by decide) rfl (fun ls hl => ?_)
          refine lv_goto (tgt := 6) hx hb dX4_laterOnes_41 (by decide) ?_
          exact ih (j + 1) _ (by omega) (by omega) (by rw [cnt_h _ _ _ c_28]; omega) _ _ hP hS ls (lv_sub hl [0, 1, 2, 3] rfl)
  exact loop (n - (k1 + 1)) (k1 + 1) 0 (by omega) (Nat.le_refl _) (Nat.zero_add _) _ _ hP hS ls (lv_sub hl [0, 1, 2, 3] rfl)
set_option maxHeartbeats 4000000 in
theorem mX4_isKnown (l : Launch) (Y : YT) (h : Nat → Nat) (hh : aD 6 h) (sz : Nat) (L : Lg) (cd : Int32) (k1 : Nat) (hk1 : k1 < gN L) (hn : gN L ≤ 2000) : XMet l yX4_isKnown (ws_ yX4_isKnown cX4_isKnown 2 (some .boolean)) ({ frames := 1, cells := 0, slots := 0, locals := 23 }) (mPre Y h L cd sz [.ref (h 0), .int (nI k1)]) (xQ (pI (if kno (gP L) k1 (gN L) then 1 else 0) (mH Y h L cd)) (aA 6 h sz)) 0 0 (aA 6 h sz) := by
  refine XMet.ofW (cc := cX4_isKnown) (maxL := 2) (ret := (some .boolean)) (by decide) rfl ?_
  intro p e s m args below meth c s₁ B hml hno hv
  obtain ⟨rfl, hsz, hP, hYK⟩ := hv
  obtain ⟨⟨n, e0⟩, fB, fP, fX, fS, fL⟩ := L
  have hx := B.exec
  have hb := B.bytes
  have hr := B.returns
  have hlk := B.notSynchronized
  have hts := atoms_spec (ws := ws_ yX4_isKnown cX4_isKnown 2 (some .boolean)) B.pre
  have hts : ∀ w ∈ lw_all, w.before _ s = true := fun w h => hts w (List.mem_cons_of_mem _ h)
  have hown : s.vm.findClass RX4 = some m.cls := findClass_of_methodNamed B.named
  subst hsz
  have hK := hYK.1
  have hP0 := hP
  have hS : va_S (aA 6 h s.heap.size) s.heap s.heap [] := va_S.rf
  have hl := lv_entry [.ref (h 0), .int (nI k1)] (n := 2) (Nat.le_of_ble_eq_true rfl)
  rw [lg_entry_eq]
  generalize (lg_sl [.ref (h 0), .int (nI k1)] ++ List.replicate (2 - (lg_sl [.ref (h 0), .int (nI k1)]).length) Slot.unset).toArray = ls at hl ⊢
  have hl : lv_has ls 2 [(0, .ref (h 0)), (1, .int (nI k1))] := hl
  have hn : n ≤ 2000 := hn
  have hk1 : k1 < n := hk1
  refine lv_aload_n hx hb dX4_isKnown_0 rfl (lv_at hl 0 rfl) ?_
  refine va_get (D := Y.1) (ci := 3) (v := .ref (h 2)) (C := RX4) (T := TX4) (N := 8) hx hb hts in_X4 hown hK hP 0 rfl rfl 4 (by decide) (hts _ q310) (fun _ h9 => h9) rfl dX4_isKnown_1 ?_
  refine lv_iload_n hx hb dX4_isKnown_4 rfl (lv_at hl 1 rfl) ?_
  refine y_lald hx hb hK hP 2 1 fP rfl rfl k1 (by omega) (by decide) dX4_isKnown_5 ?_
  refine lv_lconst (v := 0) hx hb dX4_isKnown_6 (by decide) ?_
  refine W.lcmp hx hb dX4_isKnown_7 ?_
  refine lv_if_lt (tgt := 24) hx hb dX4_isKnown_8 (by decide) (fun c_8 => ?_) (fun c_8 => ?_)
  · rw [lg_cmp_lt] at c_8
    refine lv_iconst (v := 0) hx hb dX4_isKnown_24 (by decide) ?_
    exact xzret hx hb hr hlk rfl hS dX4_isKnown_25 (⟨ri (if_neg (fun z => i64_le.mpr z.1 c_8)).symm, hP⟩)
  · rw [lg_cmp_lt] at c_8
    refine lv_aload_n hx hb dX4_isKnown_11 rfl (lv_at hl 0 rfl) ?_
    refine lv_iload_n hx hb dX4_isKnown_12 rfl (lv_at hl 1 rfl) ?_
    refine xgoI (xrunV (As := [.int (nI k1)]) (rest := []) ⟨hx, hb, hml, hown, hts⟩ (mX4_laterOnes l Y h hh s.heap.size ((n, e0), fB, fP, fX, fS, fL) _ k1 hk1 hn) (cwV 1 hts (lw_V q380 q382 qs9 q14 q383) rfl rfl rfl (by decide +kernel) ⟨Nat.le_of_ble_eq_true rfl, Nat.le_of_ble_eq_true rfl⟩) ⟨mPre_bl, va_recv hK hP (ci := 3) (q0 := 0) rfl rfl, fun U hU hW => ⟨rfl, by rw [hU], by rw [hU]; exact hP, hYK.moved hW.alike⟩⟩ rfl rfl hl.1 rfl (lv_room (Nat.le_of_ble_eq_true rfl)) dX4_isKnown_13 ⟨Nat.le_of_ble_eq_true rfl, Nat.le_of_ble_eq_true rfl⟩) hS (fun q _ h => aA.le hS.1 h) (fun q h => aA.le hS.1 h) (fun H locs hP hz hk hS => ?_)
    refine lv_iconst (v := 5) hx hb dX4_isKnown_16 (by decide) ?_
    refine lv_icmp_ge (tgt := 24) hx hb dX4_isKnown_17 (by decide) (fun c_17 => ?_) (fun c_17 => ?_)
    · refine lv_iconst (v := 0) hx hb dX4_isKnown_24 (by decide) ?_
      exact xzret hx hb hr hlk rfl hS dX4_isKnown_25 (⟨ri (if_neg (fun z => absurd c_17 (nI_ge (b := 5) z.2 (by decide)))).symm, hP⟩)
    · refine lv_iconst (v := 1) hx hb dX4_isKnown_20 (by decide) ?_
      refine lv_goto (tgt := 25) hx hb dX4_isKnown_21 (by decide) ?_
      exact xzret hx hb hr hlk rfl hS dX4_isKnown_25 (⟨ri (if_pos ⟨i64_le.mp c_8, Nat.not_le.mp (fun z => c_17 (nI_le (a := 5) z (Nat.lt_of_le_of_lt (Nat.le_trans (Nat.sub_le _ _) (cnt_le _ _ _)) (by omega))))⟩).symm, hP⟩)
set_option maxHeartbeats 4000000 in
theorem mX4_thin (l : Launch) (Y : YT) (h : Nat → Nat) (hh : aD 6 h) (sz : Nat) (L : Lg) (cd : Int32) (hlg : LogOK L) : XMet l yX4_thin (ws_ yX4_thin cX4_thin 4 (some .int)) ({ frames := 2, cells := 0, slots := 0, locals := 44 }) (mPre Y h L cd sz [.ref (h 0)]) (xQ (pI (thR L).1 (mH Y h (thR L).2 0)) (aA 6 h sz)) 0 0 (aA 6 h sz) := by
  refine XMet.ofW (cc := cX4_thin) (maxL := 4) (ret := (some .int)) (by decide) rfl ?_
  intro p e s m args below meth c s₁ B hml hno hv
  obtain ⟨rfl, hsz, hP, hYK⟩ := hv
  obtain ⟨⟨n, e0⟩, fB, fP, fX, fS, fL⟩ := L
  have hx := B.exec
  have hb := B.bytes
  have hr := B.returns
  have hlk := B.notSynchronized
  have hts := atoms_spec (ws := ws_ yX4_thin cX4_thin 4 (some .int)) B.pre
  have hts : ∀ w ∈ lw_all, w.before _ s = true := fun w h => hts w (List.mem_cons_of_mem _ h)
  have hown : s.vm.findClass RX4 = some m.cls := findClass_of_methodNamed B.named
  subst hsz
  have hK := hYK.1
  have hP0 := hP
  have hS : va_S (aA 6 h s.heap.size) s.heap s.heap [] := va_S.rf
  have hl := lv_entry [.ref (h 0)] (n := 4) (Nat.le_of_ble_eq_true rfl)
  rw [lg_entry_eq]
  generalize (lg_sl [.ref (h 0)] ++ List.replicate (4 - (lg_sl [.ref (h 0)]).length) Slot.unset).toArray = ls at hl ⊢
  have hl : lv_has ls 4 [(0, .ref (h 0))] := hl
  have hn : n ≤ 2000 := hlg.1
  refine lv_aload_n hx hb dX4_thin_0 rfl (lv_at hl 0 rfl) ?_
  refine lv_iconst (v := 0) hx hb dX4_thin_1 (by decide) ?_
  refine va_put (D := Y.1) (ci := 3) (v := .int 0) (ty := .int) (C := RX4) (T := TX4) (N := 8) hx hb hts in_X4 tyX4 tyX4_ok nmX4 hown hK hP (md_D hh) hS 0 rfl rfl 0 (by decide) (hts _ q306) (fun _ h9 => h9) rfl (by decide +kernel) rfl rfl (Nat.le_of_ble_eq_true rfl) dX4_thin_2 (fun H locs hP _ hS => ?_)
  have hP : mH Y h ((n, e0), fB, fP, fX, fS, fL) 0 H := hP
  refine lv_aload_n hx hb dX4_thin_5 rfl (lv_at hl 0 rfl) ?_
  refine va_get (D := Y.1) (ci := 3) (v := .int (nI n)) (C := RX4) (T := TX4) (N := 8) hx hb hts in_X4 hown hK hP 0 rfl rfl 1 (by decide) (hts _ q307) (fun _ h9 => h9) rfl dX4_thin_6 ?_
  refine lv_istore_n (lv' := [(1, .int (nI n)), (0, .ref (h 0))]) hx hb dX4_thin_9 rfl hl (by decide) rfl (fun ls hl => ?_)
  refine lv_iconst (v := 0) hx hb dX4_thin_10 (by decide) ?_
  refine xi_eq (nI 0) (nI_0.symm) ?_
  refine lv_istore_n (lv' := [(2, .int (nI 0)), (1, .int (nI n)), (0, .ref (h 0))]) hx hb dX4_thin_11 rfl hl (by decide) rfl (fun ls hl => ?_)
  refine lv_iconst (v := 0) hx hb dX4_thin_12 (by decide) ?_
  refine xi_eq (nI 0) (nI_0.symm) ?_
  refine lv_istore_n (lv' := [(3, .int (nI 0)), (2, .int (nI 0)), (1, .int (nI n)), (0, .ref (h 0))]) hx hb dX4_thin_13 rfl hl (by decide) rfl (fun ls hl => ?_)
  have loop : ∀ (k j c2 : Nat) (gB2 : Nat → Int32) (gP2 : Nat → Int64) (gX2 gS2 gL2 : Nat → Int32), j + k = n → thL ((n, e0), fB, fP, fX, fS, fL) j = (c2, ((n, e0), gB2, gP2, gX2, gS2, gL2)) → ∀ (H : Heap) (locs : List Loc), mH Y h ((n, e0), gB2, gP2, gX2, gS2, gL2) 0 H → va_S (aA 6 h s.heap.size) s.heap H locs → ∀ (ls : Array Slot), lv_has ls 4 [(3, .int (nI j)), (2, .int (nI c2)), (1, .int (nI n)), (0, .ref (h 0))] → W p l e (headSpec (ws_ yX4_thin cX4_thin 4 (some .int)) ({ frames := 2, cells := 0, slots := 0, locals := 44 })).room s m ([.ref (h 0)] : List Value).toArray below meth c H locs 0 0 (XMQ below (xQ (pI (thR ((n, e0), fB, fP, fX, fS, fL)).1 (mH Y h (thR ((n, e0), fB, fP, fX, fS, fL)).2 0)) (aA 6 h s.heap.size)) ([.ref (h 0)] : List Value).toArray s 0 0 (aA 6 h s.heap.size)) (F0 m 14 ls []) := by
    intro k
    induction k with
    | zero =>
      intro j c2 gB2 gP2 gX2 gS2 gL2 hj hth H locs hP hS ls hl
      have hlo := (thL_ok hlg j).2.1
      rw [hth] at hlo
      have hc2 : c2 ≤ j := hlo
      have hhi : ∀ q, j ≤ q → gP2 q = fP q := fun q hq => by have := thL_hi ((n, e0), fB, fP, fX, fS, fL) j q hq; rw [hth] at this; exact this
      refine lv_iload_n hx hb dX4_thin_14 rfl (lv_at hl 0 rfl) ?_
      refine lv_iload_n hx hb dX4_thin_15 rfl (lv_at hl 2 rfl) ?_
      refine lv_icmp_ge (tgt := 42) hx hb dX4_thin_16 (by decide) (fun c_16 => ?_) (fun c_16 => ?_)
      · refine lv_aload_n hx hb dX4_thin_42 rfl (lv_at hl 3 rfl) ?_
        refine lv_iload_n hx hb dX4_thin_43 rfl (lv_at hl 1 rfl) ?_
        refine va_put (D := Y.1) (ci := 3) (v := .int (nI c2)) (ty := .int) (C := RX4) (T := TX4) (N := 8) hx hb hts in_X4 tyX4 tyX4_ok nmX4 hown hK hP (md_D hh) hS 0 rfl rfl 1 (by decide) (hts _ q307) (fun _ h9 => h9) rfl (by decide +kernel) rfl rfl (Nat.le_of_ble_eq_true rfl) dX4_thin_44 (fun H locs hP _ hS => ?_)
        have hP : mH Y h ((c2, e0), gB2, gP2, gX2, gS2, gL2) 0 H := hP
        refine lv_iload_n hx hb dX4_thin_47 rfl (lv_at hl 2 rfl) ?_
        refine lv_iload_n hx hb dX4_thin_48 rfl (lv_at hl 1 rfl) ?_
        refine lv_isub hx hb dX4_thin_49 ?_
        exact xiret hx hb hr hlk hS dX4_thin_50 ((by unfold thR; rw [show gN ((n, e0), fB, fP, fX, fS, fL) = j by show n = j; omega, hth]; exact ⟨ri (by rw [show n = j by omega]), hP⟩))
      · exact absurd ((nI_le (by omega) (by omega) : nI n ≤ nI j)) c_16
    | succ k ih =>
      intro j c2 gB2 gP2 gX2 gS2 gL2 hj hth H locs hP hS ls hl
      have hlo := (thL_ok hlg j).2.1
      rw [hth] at hlo
      have hc2 : c2 ≤ j := hlo
      have hhi : ∀ q, j ≤ q → gP2 q = fP q := fun q hq => by have := thL_hi ((n, e0), fB, fP, fX, fS, fL) j q hq; rw [hth] at this; exact this
      refine lv_iload_n hx hb dX4_thin_14 rfl (lv_at hl 0 rfl) ?_
      refine lv_iload_n hx hb dX4_thin_15 rfl (lv_at hl 2 rfl) ?_
      refine lv_icmp_ge (tgt := 42) hx hb dX4_thin_16 (by decide) (fun c_16 => ?_) (fun c_16 => ?_)
      · exact absurd c_16 ((fun z => absurd ((nI_leI (a := n) (b := j) (by omega) (by omega)).mp z) (by omega)))
      · refine lv_aload_n hx hb dX4_thin_19 rfl (lv_at hl 3 rfl) ?_
        refine lv_iload_n hx hb dX4_thin_20 rfl (lv_at hl 0 rfl) ?_
        by_cases hkn : kno fP j n
        · refine xgoI (xrunV (As := [.int (nI j)]) (rest := []) ⟨hx, hb, hml, hown, hts⟩ (mX4_isKnown l Y h hh H.size ((n, e0), gB2, gP2, gX2, gS2, gL2) _ j (show j < n by omega) hn) (cwV 1 hts (lw_V q376 q378 qs8 q14 q379) rfl rfl rfl (by decide +kernel) ⟨Nat.le_of_ble_eq_true rfl, Nat.le_of_ble_eq_true rfl⟩) ⟨mPre_bl, va_recv hK hP (ci := 3) (q0 := 0) rfl rfl, fun U hU hW => ⟨rfl, by rw [hU], by rw [hU]; exact hP, hYK.moved hW.alike⟩⟩ rfl rfl hl.1 rfl (lv_room (Nat.le_of_ble_eq_true rfl)) dX4_thin_21 ⟨Nat.le_of_ble_eq_true rfl, Nat.le_of_ble_eq_true rfl⟩) hS (fun q _ h => aA.le hS.1 h) (fun q h => aA.le hS.1 h) (fun H locs hP hz hk hS => ?_)
          refine xi_eq 1 (if_pos ((kno_hi (show j < n by omega) hhi).mpr hkn)) ?_
          refine lv_if_eq (tgt := 36) hx hb dX4_thin_24 (by decide) (fun c_24 => ?_) (fun c_24 => ?_)
          · exact absurd c_24 (by decide)
          · refine lv_aload_n hx hb dX4_thin_27 rfl (lv_at hl 3 rfl) ?_
            refine lv_iload_n hx hb dX4_thin_28 rfl (lv_at hl 0 rfl) ?_
            refine lv_iload_n hx hb dX4_thin_29 rfl (lv_at hl 1 rfl) ?_
            refine xgoV (xrunV (As := [.int (nI j), .int (nI c2)]) (rest := []) ⟨hx, hb, hml, hown, hts⟩ (mX4_copy l Y h hh H.size _ _ j c2 (by omega) (by omega)) (cwV 2 hts (lw_V q368 q370 qs7 q14 q371) rfl rfl rfl (by decide +kernel) ⟨Nat.le_of_ble_eq_true rfl, Nat.le_of_ble_eq_true rfl⟩) ⟨mPre_bl, va_recv hK hP (ci := 3) (q0 := 0) rfl rfl, fun U hU hW => ⟨rfl, by rw [hU], by rw [hU]; exact hP, hYK.moved hW.alike⟩⟩ rfl rfl hl.1 rfl (lv_room (Nat.le_of_ble_eq_true rfl)) dX4_thin_30 ⟨Nat.le_of_ble_eq_true rfl, Nat.le_of_ble_eq_true rfl⟩) hS (fun q _ h => aA.le hS.1 h) (fun q h => aA.le hS.1 h) (fun H locs hP hz hk hS => ?_)
            have hP : mH Y h ((n, e0), (upd gB2 c2 (gB2 j)), (vp_updL gP2 c2 (gP2 j)), (upd gX2 c2 (gX2 j)), (upd gS2 c2 (gS2 j)), (upd gL2 c2 (gL2 j))) 0 H := hP
            refine lv_iinc (v := nI (c2 + 1)) (lv' := [(2, .int (nI (c2 + 1))), (3, .int (nI j)), (1, .int (nI n)), (0, .ref (h 0))]) hx hb dX4_thin_33 hl (k := 1) rfl (inc1 _) (by decide) rfl (fun ls hl => ?_)
            refine lv_iinc (v := nI (j + 1)) (lv' := [(3, .int (nI (j + 1))), (2, .int (nI (c2 + 1))), (1, .int (nI n)), (0, .ref (h 0))]) hx hb dX4_thin_36 hl (k := 1) rfl (inc1 _) (by decide) rfl (fun ls hl => ?_)
            refine lv_goto (tgt := 14) hx hb dX4_thin_39 (by decide) ?_
            exact ih (j + 1) _ _ _ _ _ _ (by omega) (by rw [th_hit (L := ((n, e0), fB, fP, fX, fS, fL)) hkn, hth]; rfl) _ _ hP hS ls (lv_sub hl [0, 1, 2, 3] rfl)
        · refine xgoI (xrunV (As := [.int (nI j)]) (rest := []) ⟨hx, hb, hml, hown, hts⟩ (mX4_isKnown l Y h hh H.size ((n, e0), gB2, gP2, gX2, gS2, gL2) _ j (show j < n by omega) hn) (cwV 1 hts (lw_V q376 q378 qs8 q14 q379) rfl rfl rfl (by decide +kernel) ⟨Nat.le_of_ble_eq_true rfl, Nat.le_of_ble_eq_true rfl⟩) ⟨mPre_bl, va_recv hK hP (ci := 3) (q0 := 0) rfl rfl, fun U hU hW => ⟨rfl, by rw [hU], by rw [hU]; exact hP, hYK.moved hW.alike⟩⟩ rfl rfl hl.1 rfl (lv_room (Nat.le_of_ble_eq_true rfl)) dX4_thin_21 ⟨Nat.le_of_ble_eq_true rfl, Nat.le_of_ble_eq_true rfl⟩) hS (fun q _ h => aA.le hS.1 h) (fun q h => aA.le hS.1 h) (fun H locs hP hz hk hS => ?_)
          refine xi_eq 0 (if_neg (fun z => hkn ((kno_hi (show j < n by omega) hhi).mp z))) ?_
          refine lv_if_eq (tgt := 36) hx hb dX4_thin_24 (by decide) (fun c_24 => ?_) (fun c_24 => ?_)
          · refine lv_iinc (v := nI (j + 1)) (lv' := [(3, .int (nI (j + 1))), (2, .int (nI c2)), (1, .int (nI n)), (0, .ref (h 0))]) hx hb dX4_thin_36 hl (k := 0) rfl (inc1 _) (by decide) rfl (fun ls hl => ?_)
            refine lv_goto (tgt := 14) hx hb dX4_thin_39 (by decide) ?_
            exact ih (j + 1) _ _ _ _ _ _ (by omega) (by rw [th_miss (L := ((n, e0), fB, fP, fX, fS, fL)) hkn, hth]) _ _ hP hS ls (lv_sub hl [0, 1, 2, 3] rfl)
          · exact absurd (rfl) c_24
  exact loop n 0 0 _ _ _ _ _ (by omega) rfl _ _ hP hS ls (lv_sub hl [0, 1, 2, 3] rfl)
end
section
/-! ProducerBookModel: known, batch, count (written by prog/model3.py) -/
set_option maxRecDepth 100000
set_option maxHeartbeats 4000000 in
theorem mX4_known (l : Launch) (Y : YT) (h : Nat → Nat) (hh : aD 6 h) (sz : Nat) (L : Lg) (cd : Int32) (p1 : Int64) (w1 : Int32) (hlg : LogOK L) : XMet l yX4_known (ws_ yX4_known cX4_known 6 (some .int)) ({ frames := 1, cells := 0, slots := 0, locals := 25 }) (mPre Y h L cd sz [.ref (h 0), .long p1, .int w1]) (xQ (pI (knR L p1 w1).2 (mH Y h L (knR L p1 w1).1)) (aA 6 h sz)) 0 0 (aA 6 h sz) := by
  refine XMet.ofW (cc := cX4_known) (maxL := 6) (ret := (some .int)) (by decide) rfl ?_
  intro p e s m args below meth c s₁ B hml hno hv
  obtain ⟨rfl, hsz, hP, hYK⟩ := hv
  obtain ⟨⟨n, e0⟩, fB, fP, fX, fS, fL⟩ := L
  have hx := B.exec
  have hb := B.bytes
  have hr := B.returns
  have hlk := B.notSynchronized
  have hts := atoms_spec (ws := ws_ yX4_known cX4_known 6 (some .int)) B.pre
  have hts : ∀ w ∈ lw_all, w.before _ s = true := fun w h => hts w (List.mem_cons_of_mem _ h)
  have hown : s.vm.findClass RX4 = some m.cls := findClass_of_methodNamed B.named
  subst hsz
  have hK := hYK.1
  have hP0 := hP
  have hS : va_S (aA 6 h s.heap.size) s.heap s.heap [] := va_S.rf
  have hl := lv_entry [.ref (h 0), .long p1, .int w1] (n := 6) (Nat.le_of_ble_eq_true rfl)
  rw [lg_entry_eq]
  generalize (lg_sl [.ref (h 0), .long p1, .int w1] ++ List.replicate (6 - (lg_sl [.ref (h 0), .long p1, .int w1]).length) Slot.unset).toArray = ls at hl ⊢
  have hl : lv_has ls 6 [(0, .ref (h 0)), (1, .long p1), (3, .int w1)] := hl
  have hn : n ≤ 2000 := hlg.1
  refine lv_aload_n hx hb dX4_known_0 rfl (lv_at hl 0 rfl) ?_
  refine lv_lload_n hx hb dX4_known_1 rfl (lv_at hl 1 rfl) ?_
  refine lv_lconst (v := 0) hx hb dX4_known_2 (by decide) ?_
  refine W.lcmp hx hb dX4_known_3 ?_
  refine lv_if_lt (tgt := 16) hx hb dX4_known_4 (by decide) (fun c_4 => ?_) (fun c_4 => ?_)
  · rw [lg_cmp_lt] at c_4
    refine lv_iconst (v := 1) hx hb dX4_known_16 (by decide) ?_
    refine lv_goto (tgt := 21) hx hb dX4_known_17 (by decide) ?_
    refine va_put (D := Y.1) (ci := 3) (v := .int 1) (ty := .int) (C := RX4) (T := TX4) (N := 8) hx hb hts in_X4 tyX4 tyX4_ok nmX4 hown hK hP (md_D hh) hS 0 rfl rfl 0 (by decide) (hts _ q306) (fun _ h9 => h9) rfl (by decide +kernel) rfl rfl (Nat.le_of_ble_eq_true rfl) dX4_known_21 (fun H locs hP _ hS => ?_)
    have hP : mH Y h ((n, e0), fB, fP, fX, fS, fL) 1 H := hP
    refine lv_aload_n hx hb dX4_known_24 rfl (lv_at hl 0 rfl) ?_
    refine va_get (D := Y.1) (ci := 3) (v := .int 1) (C := RX4) (T := TX4) (N := 8) hx hb hts in_X4 hown hK hP 0 rfl rfl 0 (by decide) (hts _ q306) (fun _ h9 => h9) rfl dX4_known_25 ?_
    refine lv_if_le (tgt := 33) hx hb dX4_known_28 (by decide) (fun c_28 => ?_) (fun c_28 => ?_)
    · exact absurd c_28 (by decide)
    · refine lv_iconst (v := 0) hx hb dX4_known_31 (by decide) ?_
      exact xiret hx hb hr hlk hS dX4_known_32 ((by rw [kn_bad (L := ((n, e0), fB, fP, fX, fS, fL)) (Or.inl c_4)]; exact ⟨rfl, hP⟩))
  · rw [lg_cmp_lt] at c_4
    refine lv_iload_n hx hb dX4_known_7 rfl (lv_at hl 2 rfl) ?_
    refine lv_if_lt (tgt := 16) hx hb dX4_known_8 (by decide) (fun c_8 => ?_) (fun c_8 => ?_)
    · refine lv_iconst (v := 1) hx hb dX4_known_16 (by decide) ?_
      refine lv_goto (tgt := 21) hx hb dX4_known_17 (by decide) ?_
      refine va_put (D := Y.1) (ci := 3) (v := .int 1) (ty := .int) (C := RX4) (T := TX4) (N := 8) hx hb hts in_X4 tyX4 tyX4_ok nmX4 hown hK hP (md_D hh) hS 0 rfl rfl 0 (by decide) (hts _ q306) (fun _ h9 => h9) rfl (by decide +kernel) rfl rfl (Nat.le_of_ble_eq_true rfl) dX4_known_21 (fun H locs hP _ hS => ?_)
      have hP : mH Y h ((n, e0), fB, fP, fX, fS, fL) 1 H := hP
      refine lv_aload_n hx hb dX4_known_24 rfl (lv_at hl 0 rfl) ?_
      refine va_get (D := Y.1) (ci := 3) (v := .int 1) (C := RX4) (T := TX4) (N := 8) hx hb hts in_X4 hown hK hP 0 rfl rfl 0 (by decide) (hts _ q306) (fun _ h9 => h9) rfl dX4_known_25 ?_
      refine lv_if_le (tgt := 33) hx hb dX4_known_28 (by decide) (fun c_28 => ?_) (fun c_28 => ?_)
      · exact absurd c_28 (by decide)
      · refine lv_iconst (v := 0) hx hb dX4_known_31 (by decide) ?_
        exact xiret hx hb hr hlk hS dX4_known_32 ((by rw [kn_bad (L := ((n, e0), fB, fP, fX, fS, fL)) (Or.inr (Or.inl c_8))]; exact ⟨rfl, hP⟩))
    · refine lv_iload_n hx hb dX4_known_11 rfl (lv_at hl 2 rfl) ?_
      refine lv_iconst (v := 4) hx hb dX4_known_12 (by decide) ?_
      refine lv_icmp_le (tgt := 20) hx hb dX4_known_13 (by decide) (fun c_13 => ?_) (fun c_13 => ?_)
      · refine lv_iconst (v := 0) hx hb dX4_known_20 (by decide) ?_
        refine va_put (D := Y.1) (ci := 3) (v := .int 0) (ty := .int) (C := RX4) (T := TX4) (N := 8) hx hb hts in_X4 tyX4 tyX4_ok nmX4 hown hK hP (md_D hh) hS 0 rfl rfl 0 (by decide) (hts _ q306) (fun _ h9 => h9) rfl (by decide +kernel) rfl rfl (Nat.le_of_ble_eq_true rfl) dX4_known_21 (fun H locs hP _ hS => ?_)
        have hP : mH Y h ((n, e0), fB, fP, fX, fS, fL) 0 H := hP
        refine lv_aload_n hx hb dX4_known_24 rfl (lv_at hl 0 rfl) ?_
        refine va_get (D := Y.1) (ci := 3) (v := .int 0) (C := RX4) (T := TX4) (N := 8) hx hb hts in_X4 hown hK hP 0 rfl rfl 0 (by decide) (hts _ q306) (fun _ h9 => h9) rfl dX4_known_25 ?_
        refine lv_if_le (tgt := 33) hx hb dX4_known_28 (by decide) (fun c_28 => ?_) (fun c_28 => ?_)
        · refine lv_iconst (v := 0) hx hb dX4_known_33 (by decide) ?_
          refine xi_eq (nI 0) (nI_0.symm) ?_
          refine lv_istore (lv' := [(4, .int (nI 0)), (0, .ref (h 0)), (1, .long p1), (3, .int w1)]) hx hb dX4_known_34 hl (by decide) rfl (fun ls hl => ?_)
          have fin : ∀ (H : Heap) (locs : List Loc), mH Y h ((n, e0), fB, fP, fX, fS, fL) 0 H → va_S (aA 6 h s.heap.size) s.heap H locs → ∀ (ls : Array Slot), lv_has ls 6 [(4, .int (nI (min 5 (cnt fP p1 n)))), (0, .ref (h 0)), (1, .long p1), (3, .int w1)] → W p l e (headSpec (ws_ yX4_known cX4_known 6 (some .int)) ({ frames := 1, cells := 0, slots := 0, locals := 25 })).room s m ([.ref (h 0), .long p1, .int w1] : List Value).toArray below meth c H locs 0 0 (XMQ below (xQ (pI (knR ((n, e0), fB, fP, fX, fS, fL) p1 w1).2 (mH Y h ((n, e0), fB, fP, fX, fS, fL) (knR ((n, e0), fB, fP, fX, fS, fL) p1 w1).1)) (aA 6 h s.heap.size)) ([.ref (h 0), .long p1, .int w1] : List Value).toArray s 0 0 (aA 6 h s.heap.size)) (F0 m 58 ls []) := by
            intro H locs hP hS ls hl
            have hcl := cnt_le fP p1 n
            refine lv_iload_n hx hb dX4_known_58 rfl (lv_at hl 3 rfl) ?_
            refine lv_if_ne (tgt := 65) hx hb dX4_known_59 (by decide) (fun c_59 => ?_) (fun c_59 => ?_)
            · refine lv_iload hx hb dX4_known_65 (lv_at hl 0 rfl) ?_
              refine lv_if_ne (tgt := 72) hx hb dX4_known_67 (by decide) (fun c_67 => ?_) (fun c_67 => ?_)
              · have hw00 : ¬ cnt (gP ((n, e0), fB, fP, fX, fS, fL)) p1 (gN ((n, e0), fB, fP, fX, fS, fL)) = 0 := fun z => c_67 (by rw [show (cnt fP p1 n) = 0 from z]; rfl)
                have hw0 : 0 < (cnt fP p1 n) := Nat.pos_of_ne_zero hw00
                obtain ⟨k0, hk0⟩ := occ_some hw0
                obtain ⟨hk0n, hk0p, -⟩ := occ_spec hk0
                obtain ⟨k4, hk4⟩ := occ_some (f := fP) (p := p1) (n := n) (i := min 5 (cnt fP p1 n) - 1) (by omega)
                have hk4n : k4 < n := (occ_spec hk4).1
                obtain ⟨⟨S0, hS0, eS0⟩, q0, hq0, eq0⟩ := row_seq (L := ((n, e0), fB, fP, fX, fS, fL)) hlg (k := k0) (show 0 ≤ fP k0 by rw [hk0p]; exact not_lt64.mp c_4)
                refine lv_aload_n hx hb dX4_known_72 rfl (lv_at hl 1 rfl) ?_
                refine lv_lload_n hx hb dX4_known_73 rfl (lv_at hl 2 rfl) ?_
                refine lv_iconst (v := 0) hx hb dX4_known_74 (by decide) ?_
                refine xi_eq (nI 0) (nI_0.symm) ?_
                refine xgoI (xrunV (As := [.long p1, .int (nI 0)]) (rest := []) ⟨hx, hb, hml, hown, hts⟩ (mX4_knownOne l Y h hh H.size ((n, e0), fB, fP, fX, fS, fL) _ p1 0 (nI k0) (by decide) hn (kO_some (L := ((n, e0), fB, fP, fX, fS, fL)) c_4 hk0)) (cwV 2 hts (lw_V q347 q349 qs5 q14 q350) rfl rfl rfl (by decide +kernel) ⟨Nat.le_of_ble_eq_true rfl, Nat.le_of_ble_eq_true rfl⟩) ⟨mPre_bl, va_recv hK hP (ci := 3) (q0 := 0) rfl rfl, fun U hU hW => ⟨rfl, by rw [hU], by rw [hU]; exact hP, hYK.moved hW.alike⟩⟩ rfl rfl hl.1 rfl (lv_room (Nat.le_of_ble_eq_true rfl)) dX4_known_75 ⟨Nat.le_of_ble_eq_true rfl, Nat.le_of_ble_eq_true rfl⟩) hS (fun q _ h => aA.le hS.1 h) (fun q h => aA.le hS.1 h) (fun H locs hP hz hk hS => ?_)
                refine lv_istore (lv' := [(5, .int (nI k0)), (4, .int (nI (min 5 (cnt fP p1 n)))), (0, .ref (h 0)), (1, .long p1), (3, .int w1)]) hx hb dX4_known_78 hl (by decide) rfl (fun ls hl => ?_)
                refine lv_iload_n hx hb dX4_known_80 rfl (lv_at hl 4 rfl) ?_
                rcases w4 c_8 (i32_le.mpr c_13) with z | rfl | rfl | rfl | rfl
                · exact absurd z c_59
                · refine lv_tableIn (tgt := 108) hx hb dX4_known_81 (by decide) (by decide) rfl (by decide) ?_
                  refine lv_aload_n hx hb dX4_known_108 rfl (lv_at hl 2 rfl) ?_
                  refine va_get (D := Y.1) (ci := 3) (v := .ref (h 3)) (C := RX4) (T := TX4) (N := 8) hx hb hts in_X4 hown hK hP 0 rfl rfl 5 (by decide) (hts _ q311) (fun _ h9 => h9) rfl dX4_known_109 ?_
                  refine lv_iload hx hb dX4_known_112 (lv_at hl 0 rfl) ?_
                  refine y_iald hx hb hK hP 3 0 fX rfl rfl k0 (by omega) (by decide) dX4_known_114 ?_
                  exact xiret hx hb hr hlk hS dX4_known_115 ((by rw [kn_1 (L := ((n, e0), fB, fP, fX, fS, fL)) c_4 hw00 hk0]; exact ⟨rfl, hP⟩))
                · refine lv_tableIn (tgt := 116) hx hb dX4_known_81 (by decide) (by decide) rfl (by decide) ?_
                  refine lv_aload_n hx hb dX4_known_116 rfl (lv_at hl 2 rfl) ?_
                  refine va_get (D := Y.1) (ci := 3) (v := .ref (h 4)) (C := RX4) (T := TX4) (N := 8) hx hb hts in_X4 hown hK hP 0 rfl rfl 6 (by decide) (hts _ q312) (fun _ h9 => h9) rfl dX4_known_117 ?_
                  refine lv_iload hx hb dX4_known_120 (lv_at hl 0 rfl) ?_
                  refine y_iald hx hb hK hP 4 0 fS rfl rfl k0 (by omega) (by decide) dX4_known_122 ?_
                  refine xi_eq (nI S0) (eS0) ?_
                  refine lv_aload_n hx hb dX4_known_123 rfl (lv_at hl 2 rfl) ?_
                  refine va_get (D := Y.1) (ci := 3) (v := .ref (h 5)) (C := RX4) (T := TX4) (N := 8) hx hb hts in_X4 hown hK hP 0 rfl rfl 7 (by decide) (hts _ q313) (fun _ h9 => h9) rfl dX4_known_124 ?_
                  refine lv_iload hx hb dX4_known_127 (lv_at hl 0 rfl) ?_
                  refine y_iald hx hb hK hP 5 0 fL rfl rfl k0 (by omega) (by decide) dX4_known_129 ?_
                  refine xi_eq (nI q0) (eq0) ?_
                  refine xgoI (xrunS (As := [.int (nI S0), .int (nI q0)]) (rest := []) ⟨hx, hb, hml, hown, hts⟩ (mX4_after l H.size S0 q0 hS0 hq0) (va_cwS 2 hts (lw_S q351 q352 q14 q353) rfl rfl rfl (by decide +kernel) ⟨Nat.le_of_ble_eq_true rfl, Nat.le_of_ble_eq_true rfl⟩) ⟨sPre_bl, fun U hU hW => ⟨rfl, congrArg Array.size hU⟩⟩ rfl rfl hl.1 rfl (lv_room (Nat.le_of_ble_eq_true rfl)) dX4_known_130 ⟨Nat.le_of_ble_eq_true rfl, Nat.le_of_ble_eq_true rfl⟩) hS (fun q _ h => Or.inr (Nat.le_trans hS.1 h)) (fun q h => Or.inr (Nat.le_trans hS.1 h)) (fun H locs _ hz hk hS => ?_)
                  have hP := sA_keep hP hk
                  refine xi_eq (aft (fS k0) (fL k0)) (by rw [show fS k0 = nI S0 from eS0, show fL k0 = nI q0 from eq0]) ?_
                  exact xiret hx hb hr hlk hS dX4_known_133 ((by rw [kn_2 (L := ((n, e0), fB, fP, fX, fS, fL)) c_4 hw00 hk0]; exact ⟨rfl, hP⟩))
                · refine lv_tableIn (tgt := 134) hx hb dX4_known_81 (by decide) (by decide) rfl (by decide) ?_
                  refine lv_aload_n hx hb dX4_known_134 rfl (lv_at hl 2 rfl) ?_
                  refine va_get (D := Y.1) (ci := 3) (v := .ref (h 1)) (C := RX4) (T := TX4) (N := 8) hx hb hts in_X4 hown hK hP 0 rfl rfl 3 (by decide) (hts _ q309) (fun _ h9 => h9) rfl dX4_known_135 ?_
                  refine lv_iload hx hb dX4_known_138 (lv_at hl 0 rfl) ?_
                  refine y_iald hx hb hK hP 1 0 fB rfl rfl k0 (by omega) (by decide) dX4_known_140 ?_
                  exact xiret hx hb hr hlk hS dX4_known_141 ((by rw [kn_3 (L := ((n, e0), fB, fP, fX, fS, fL)) c_4 hw00 hk0]; exact ⟨rfl, hP⟩))
                · refine lv_tableOut (tgt := 142) hx hb dX4_known_81 (Or.inr (by decide)) (by decide) ?_
                  refine lv_aload_n hx hb dX4_known_142 rfl (lv_at hl 2 rfl) ?_
                  refine va_get (D := Y.1) (ci := 3) (v := .ref (h 1)) (C := RX4) (T := TX4) (N := 8) hx hb hts in_X4 hown hK hP 0 rfl rfl 3 (by decide) (hts _ q309) (fun _ h9 => h9) rfl dX4_known_143 ?_
                  refine lv_aload_n hx hb dX4_known_146 rfl (lv_at hl 2 rfl) ?_
                  refine lv_lload_n hx hb dX4_known_147 rfl (lv_at hl 3 rfl) ?_
                  refine lv_iload hx hb dX4_known_148 (lv_at hl 1 rfl) ?_
                  refine lv_iconst (v := 1) hx hb dX4_known_150 (by decide) ?_
                  refine lv_isub hx hb dX4_known_151 ?_
                  refine xi_eq (nI (min 5 (cnt fP p1 n) - 1)) (pk_sub (b := 1) (by omega)) ?_
                  refine xgoI (xrunV (As := [.long p1, .int (nI (min 5 (cnt fP p1 n) - 1))]) (rest := [.ref (h 1)]) ⟨hx, hb, hml, hown, hts⟩ (mX4_knownOne l Y h hh H.size ((n, e0), fB, fP, fX, fS, fL) _ p1 (min 5 (cnt fP p1 n) - 1) (nI k4) (by omega) hn (kO_some (L := ((n, e0), fB, fP, fX, fS, fL)) c_4 hk4)) (cwV 2 hts (lw_V q347 q349 qs5 q14 q350) rfl rfl rfl (by decide +kernel) ⟨Nat.le_of_ble_eq_true rfl, Nat.le_of_ble_eq_true rfl⟩) ⟨mPre_bl, va_recv hK hP (ci := 3) (q0 := 0) rfl rfl, fun U hU hW => ⟨rfl, by rw [hU], by rw [hU]; exact hP, hYK.moved hW.alike⟩⟩ rfl rfl hl.1 rfl (lv_room (Nat.le_of_ble_eq_true rfl)) dX4_known_152 ⟨Nat.le_of_ble_eq_true rfl, Nat.le_of_ble_eq_true rfl⟩) hS (fun q _ h => aA.le hS.1 h) (fun q h => aA.le hS.1 h) (fun H locs hP hz hk hS => ?_)
                  refine y_iald hx hb hK hP 1 0 fB rfl rfl k4 (by omega) (by decide) dX4_known_155 ?_
                  exact xiret hx hb hr hlk hS dX4_known_156 ((by rw [kn_4 (L := ((n, e0), fB, fP, fX, fS, fL)) c_4 hw00 hk4]; exact ⟨rfl, hP⟩))
              · have hw00 : (cnt fP p1 n) = 0 := by have := (nI_eq (a := min 5 (cnt fP p1 n)) (b := 0) (by omega) (by decide)).mp c_67; omega
                refine lv_iconst (v := (-1)) hx hb dX4_known_70 (by decide) ?_
                exact xiret hx hb hr hlk hS dX4_known_71 ((by rw [kn_n (L := ((n, e0), fB, fP, fX, fS, fL)) c_4 c_8 (i32_le.mpr c_13) c_59 hw00]; exact ⟨rfl, hP⟩))
            · refine lv_iload hx hb dX4_known_62 (lv_at hl 0 rfl) ?_
              exact xiret hx hb hr hlk hS dX4_known_64 ((by subst c_59; rw [kn_0 (L := ((n, e0), fB, fP, fX, fS, fL)) c_4]; exact ⟨rfl, hP⟩))
          have loop : ∀ (k i : Nat), i + k = 5 → i ≤ (cnt fP p1 n) → ∀ (H : Heap) (locs : List Loc), mH Y h ((n, e0), fB, fP, fX, fS, fL) 0 H → va_S (aA 6 h s.heap.size) s.heap H locs → ∀ (ls : Array Slot), lv_has ls 6 [(4, .int (nI i)), (0, .ref (h 0)), (1, .long p1), (3, .int w1)] → W p l e (headSpec (ws_ yX4_known cX4_known 6 (some .int)) ({ frames := 1, cells := 0, slots := 0, locals := 25 })).room s m ([.ref (h 0), .long p1, .int w1] : List Value).toArray below meth c H locs 0 0 (XMQ below (xQ (pI (knR ((n, e0), fB, fP, fX, fS, fL) p1 w1).2 (mH Y h ((n, e0), fB, fP, fX, fS, fL) (knR ((n, e0), fB, fP, fX, fS, fL) p1 w1).1)) (aA 6 h s.heap.size)) ([.ref (h 0), .long p1, .int w1] : List Value).toArray s 0 0 (aA 6 h s.heap.size)) (F0 m 36 ls []) := by
            intro k
            induction k with
            | zero =>
              intro i hi hic H locs hP hS ls hl
              refine lv_iload hx hb dX4_known_36 (lv_at hl 0 rfl) ?_
              refine lv_iconst (v := 5) hx hb dX4_known_38 (by decide) ?_
              refine lv_icmp_ge (tgt := 58) hx hb dX4_known_39 (by decide) (fun c_39 => ?_) (fun c_39 => ?_)
              · have e1 : i = min 5 (cnt fP p1 n) := by omega
                rw [e1] at hl
                exact fin _ _ hP hS ls (lv_sub hl [0, 1, 2, 3] rfl)
              · exact absurd ((nI_le (a := 5) (by omega) (by omega) : (5 : Int32) ≤ nI i)) c_39
            | succ k ih =>
              intro i hi hic H locs hP hS ls hl
              refine lv_iload hx hb dX4_known_36 (lv_at hl 0 rfl) ?_
              refine lv_iconst (v := 5) hx hb dX4_known_38 (by decide) ?_
              refine lv_icmp_ge (tgt := 58) hx hb dX4_known_39 (by decide) (fun c_39 => ?_) (fun c_39 => ?_)
              · exact absurd c_39 (nI_ge (b := 5) (by omega) (by decide))
              · refine lv_aload_n hx hb dX4_known_42 rfl (lv_at hl 1 rfl) ?_
                refine lv_lload_n hx hb dX4_known_43 rfl (lv_at hl 2 rfl) ?_
                refine lv_iload hx hb dX4_known_44 (lv_at hl 0 rfl) ?_
                rcases hoc : occ fP p1 n i with _ | k1
                · refine xgoI (xrunV (As := [.long p1, .int (nI i)]) (rest := []) ⟨hx, hb, hml, hown, hts⟩ (mX4_knownOne l Y h hh H.size ((n, e0), fB, fP, fX, fS, fL) _ p1 i (-1) (by omega) hn (kO_none (L := ((n, e0), fB, fP, fX, fS, fL)) hoc)) (cwV 2 hts (lw_V q347 q349 qs5 q14 q350) rfl rfl rfl (by decide +kernel) ⟨Nat.le_of_ble_eq_true rfl, Nat.le_of_ble_eq_true rfl⟩) ⟨mPre_bl, va_recv hK hP (ci := 3) (q0 := 0) rfl rfl, fun U hU hW => ⟨rfl, by rw [hU], by rw [hU]; exact hP, hYK.moved hW.alike⟩⟩ rfl rfl hl.1 rfl (lv_room (Nat.le_of_ble_eq_true rfl)) dX4_known_46 ⟨Nat.le_of_ble_eq_true rfl, Nat.le_of_ble_eq_true rfl⟩) hS (fun q _ h => aA.le hS.1 h) (fun q h => aA.le hS.1 h) (fun H locs hP hz hk hS => ?_)
                  refine lv_if_lt (tgt := 58) hx hb dX4_known_49 (by decide) (fun c_49 => ?_) (fun c_49 => ?_)
                  · have e1 : i = min 5 (cnt fP p1 n) := by
                      have h9 : (cnt fP p1 n) ≤ i := Nat.not_lt.mp (fun z => by obtain ⟨k, hk⟩ := occ_some z; rw [hoc] at hk; cases hk)
                      omega
                    rw [e1] at hl
                    exact fin _ _ hP hS ls (lv_sub hl [0, 1, 2, 3] rfl)
                  · exact absurd (by decide) c_49
                · have hk1n : k1 < n := (occ_spec hoc).1
                  refine xgoI (xrunV (As := [.long p1, .int (nI i)]) (rest := []) ⟨hx, hb, hml, hown, hts⟩ (mX4_knownOne l Y h hh H.size ((n, e0), fB, fP, fX, fS, fL) _ p1 i (nI k1) (by omega) hn (kO_some (L := ((n, e0), fB, fP, fX, fS, fL)) c_4 hoc)) (cwV 2 hts (lw_V q347 q349 qs5 q14 q350) rfl rfl rfl (by decide +kernel) ⟨Nat.le_of_ble_eq_true rfl, Nat.le_of_ble_eq_true rfl⟩) ⟨mPre_bl, va_recv hK hP (ci := 3) (q0 := 0) rfl rfl, fun U hU hW => ⟨rfl, by rw [hU], by rw [hU]; exact hP, hYK.moved hW.alike⟩⟩ rfl rfl hl.1 rfl (lv_room (Nat.le_of_ble_eq_true rfl)) dX4_known_46 ⟨Nat.le_of_ble_eq_true rfl, Nat.le_of_ble_eq_true rfl⟩) hS (fun q _ h => aA.le hS.1 h) (fun q h => aA.le hS.1 h) (fun H locs hP hz hk hS => ?_)
                  refine lv_if_lt (tgt := 58) hx hb dX4_known_49 (by decide) (fun c_49 => ?_) (fun c_49 => ?_)
                  · exact absurd c_49 (nI_pos (by omega))
                  · refine lv_iinc (v := nI (i + 1)) (lv' := [(4, .int (nI (i + 1))), (0, .ref (h 0)), (1, .long p1), (3, .int w1)]) hx hb dX4_known_52 hl (k := 0) rfl (inc1 _) (by decide) rfl (fun ls hl => ?_)
                    refine lv_goto (tgt := 36) hx hb dX4_known_55 (by decide) ?_
                    exact ih (i + 1) (by omega) (occ_lt hoc) _ _ hP hS ls (lv_sub hl [0, 1, 2, 3] rfl)
          exact loop 5 0 (by omega) (Nat.zero_le _) _ _ hP hS ls (lv_sub hl [0, 1, 2, 3] rfl)
        · exact absurd (by decide) c_28
      · refine lv_iconst (v := 1) hx hb dX4_known_16 (by decide) ?_
        refine lv_goto (tgt := 21) hx hb dX4_known_17 (by decide) ?_
        refine va_put (D := Y.1) (ci := 3) (v := .int 1) (ty := .int) (C := RX4) (T := TX4) (N := 8) hx hb hts in_X4 tyX4 tyX4_ok nmX4 hown hK hP (md_D hh) hS 0 rfl rfl 0 (by decide) (hts _ q306) (fun _ h9 => h9) rfl (by decide +kernel) rfl rfl (Nat.le_of_ble_eq_true rfl) dX4_known_21 (fun H locs hP _ hS => ?_)
        have hP : mH Y h ((n, e0), fB, fP, fX, fS, fL) 1 H := hP
        refine lv_aload_n hx hb dX4_known_24 rfl (lv_at hl 0 rfl) ?_
        refine va_get (D := Y.1) (ci := 3) (v := .int 1) (C := RX4) (T := TX4) (N := 8) hx hb hts in_X4 hown hK hP 0 rfl rfl 0 (by decide) (hts _ q306) (fun _ h9 => h9) rfl dX4_known_25 ?_
        refine lv_if_le (tgt := 33) hx hb dX4_known_28 (by decide) (fun c_28 => ?_) (fun c_28 => ?_)
        · exact absurd c_28 (by decide)
        · refine lv_iconst (v := 0) hx hb dX4_known_31 (by decide) ?_
          exact xiret hx hb hr hlk hS dX4_known_32 ((by rw [kn_bad (L := ((n, e0), fB, fP, fX, fS, fL)) (Or.inr (Or.inr (i32_lt.mp c_13)))]; exact ⟨rfl, hP⟩))
set_option maxHeartbeats 4000000 in
theorem mX4_batch (l : Launch) (Y : YT) (h : Nat → Nat) (hh : aD 6 h) (sz : Nat) (L : Lg) (cd : Int32) (k1 w1 : Int32) (hlg : LogOK L) : XMet l yX4_batch (ws_ yX4_batch cX4_batch 3 (some .long)) ({ frames := 2, cells := 0, slots := 0, locals := 44 }) (mPre Y h L cd sz [.ref (h 0), .int k1, .int w1]) (xQ (pL (baR L k1 w1).2 (mH Y h L (baR L k1 w1).1)) (aA 6 h sz)) 0 0 (aA 6 h sz) := by
  refine XMet.ofW (cc := cX4_batch) (maxL := 3) (ret := (some .long)) (by decide) rfl ?_
  intro p e s m args below meth c s₁ B hml hno hv
  obtain ⟨rfl, hsz, hP, hYK⟩ := hv
  obtain ⟨⟨n, e0⟩, fB, fP, fX, fS, fL⟩ := L
  have hx := B.exec
  have hb := B.bytes
  have hr := B.returns
  have hlk := B.notSynchronized
  have hts := atoms_spec (ws := ws_ yX4_batch cX4_batch 3 (some .long)) B.pre
  have hts : ∀ w ∈ lw_all, w.before _ s = true := fun w h => hts w (List.mem_cons_of_mem _ h)
  have hown : s.vm.findClass RX4 = some m.cls := findClass_of_methodNamed B.named
  subst hsz
  have hK := hYK.1
  have hP0 := hP
  have hS : va_S (aA 6 h s.heap.size) s.heap s.heap [] := va_S.rf
  have hl := lv_entry [.ref (h 0), .int k1, .int w1] (n := 3) (Nat.le_of_ble_eq_true rfl)
  rw [lg_entry_eq]
  generalize (lg_sl [.ref (h 0), .int k1, .int w1] ++ List.replicate (3 - (lg_sl [.ref (h 0), .int k1, .int w1]).length) Slot.unset).toArray = ls at hl ⊢
  have hl : lv_has ls 3 [(0, .ref (h 0)), (1, .int k1), (2, .int w1)] := hl
  have hn : n ≤ 2000 := hlg.1
  refine lv_aload_n hx hb dX4_batch_0 rfl (lv_at hl 0 rfl) ?_
  refine lv_iload_n hx hb dX4_batch_1 rfl (lv_at hl 1 rfl) ?_
  refine lv_if_lt (tgt := 22) hx hb dX4_batch_2 (by decide) (fun c_2 => ?_) (fun c_2 => ?_)
  · refine lv_iconst (v := 1) hx hb dX4_batch_22 (by decide) ?_
    refine lv_goto (tgt := 27) hx hb dX4_batch_23 (by decide) ?_
    refine va_put (D := Y.1) (ci := 3) (v := .int 1) (ty := .int) (C := RX4) (T := TX4) (N := 8) hx hb hts in_X4 tyX4 tyX4_ok nmX4 hown hK hP (md_D hh) hS 0 rfl rfl 0 (by decide) (hts _ q306) (fun _ h9 => h9) rfl (by decide +kernel) rfl rfl (Nat.le_of_ble_eq_true rfl) dX4_batch_27 (fun H locs hP _ hS => ?_)
    have hP : mH Y h ((n, e0), fB, fP, fX, fS, fL) 1 H := hP
    refine lv_aload_n hx hb dX4_batch_30 rfl (lv_at hl 0 rfl) ?_
    refine va_get (D := Y.1) (ci := 3) (v := .int 1) (C := RX4) (T := TX4) (N := 8) hx hb hts in_X4 hown hK hP 0 rfl rfl 0 (by decide) (hts _ q306) (fun _ h9 => h9) rfl dX4_batch_31 ?_
    refine lv_if_le (tgt := 39) hx hb dX4_batch_34 (by decide) (fun c_34 => ?_) (fun c_34 => ?_)
    · exact absurd c_34 (by decide)
    · refine lv_lconst (v := 0) hx hb dX4_batch_37 (by decide) ?_
      exact xlret hx hb hr hlk hS dX4_batch_38 ((by rw [ba_bad (L := ((n, e0), fB, fP, fX, fS, fL)) (Or.inl c_2)]; exact ⟨rfl, hP⟩))
  · refine lv_iload_n hx hb dX4_batch_5 rfl (lv_at hl 1 rfl) ?_
    refine lv_aload_n hx hb dX4_batch_6 rfl (lv_at hl 0 rfl) ?_
    refine va_get (D := Y.1) (ci := 3) (v := .int (nI n)) (C := RX4) (T := TX4) (N := 8) hx hb hts in_X4 hown hK hP 0 rfl rfl 1 (by decide) (hts _ q307) (fun _ h9 => h9) rfl dX4_batch_7 ?_
    refine lv_icmp_ge (tgt := 22) hx hb dX4_batch_10 (by decide) (fun c_10 => ?_) (fun c_10 => ?_)
    · refine lv_iconst (v := 1) hx hb dX4_batch_22 (by decide) ?_
      refine lv_goto (tgt := 27) hx hb dX4_batch_23 (by decide) ?_
      refine va_put (D := Y.1) (ci := 3) (v := .int 1) (ty := .int) (C := RX4) (T := TX4) (N := 8) hx hb hts in_X4 tyX4 tyX4_ok nmX4 hown hK hP (md_D hh) hS 0 rfl rfl 0 (by decide) (hts _ q306) (fun _ h9 => h9) rfl (by decide +kernel) rfl rfl (Nat.le_of_ble_eq_true rfl) dX4_batch_27 (fun H locs hP _ hS => ?_)
      have hP : mH Y h ((n, e0), fB, fP, fX, fS, fL) 1 H := hP
      refine lv_aload_n hx hb dX4_batch_30 rfl (lv_at hl 0 rfl) ?_
      refine va_get (D := Y.1) (ci := 3) (v := .int 1) (C := RX4) (T := TX4) (N := 8) hx hb hts in_X4 hown hK hP 0 rfl rfl 0 (by decide) (hts _ q306) (fun _ h9 => h9) rfl dX4_batch_31 ?_
      refine lv_if_le (tgt := 39) hx hb dX4_batch_34 (by decide) (fun c_34 => ?_) (fun c_34 => ?_)
      · exact absurd c_34 (by decide)
      · refine lv_lconst (v := 0) hx hb dX4_batch_37 (by decide) ?_
        exact xlret hx hb hr hlk hS dX4_batch_38 ((by rw [ba_bad (L := ((n, e0), fB, fP, fX, fS, fL)) (Or.inr (Or.inl c_10))]; exact ⟨rfl, hP⟩))
    · refine lv_iload_n hx hb dX4_batch_13 rfl (lv_at hl 2 rfl) ?_
      refine lv_if_lt (tgt := 22) hx hb dX4_batch_14 (by decide) (fun c_14 => ?_) (fun c_14 => ?_)
      · refine lv_iconst (v := 1) hx hb dX4_batch_22 (by decide) ?_
        refine lv_goto (tgt := 27) hx hb dX4_batch_23 (by decide) ?_
        refine va_put (D := Y.1) (ci := 3) (v := .int 1) (ty := .int) (C := RX4) (T := TX4) (N := 8) hx hb hts in_X4 tyX4 tyX4_ok nmX4 hown hK hP (md_D hh) hS 0 rfl rfl 0 (by decide) (hts _ q306) (fun _ h9 => h9) rfl (by decide +kernel) rfl rfl (Nat.le_of_ble_eq_true rfl) dX4_batch_27 (fun H locs hP _ hS => ?_)
        have hP : mH Y h ((n, e0), fB, fP, fX, fS, fL) 1 H := hP
        refine lv_aload_n hx hb dX4_batch_30 rfl (lv_at hl 0 rfl) ?_
        refine va_get (D := Y.1) (ci := 3) (v := .int 1) (C := RX4) (T := TX4) (N := 8) hx hb hts in_X4 hown hK hP 0 rfl rfl 0 (by decide) (hts _ q306) (fun _ h9 => h9) rfl dX4_batch_31 ?_
        refine lv_if_le (tgt := 39) hx hb dX4_batch_34 (by decide) (fun c_34 => ?_) (fun c_34 => ?_)
        · exact absurd c_34 (by decide)
        · refine lv_lconst (v := 0) hx hb dX4_batch_37 (by decide) ?_
          exact xlret hx hb hr hlk hS dX4_batch_38 ((by rw [ba_bad (L := ((n, e0), fB, fP, fX, fS, fL)) (Or.inr (Or.inr (Or.inl c_14)))]; exact ⟨rfl, hP⟩))
      · refine lv_iload_n hx hb dX4_batch_17 rfl (lv_at hl 2 rfl) ?_
        refine lv_iconst (v := 5) hx hb dX4_batch_18 (by decide) ?_
        refine lv_icmp_le (tgt := 26) hx hb dX4_batch_19 (by decide) (fun c_19 => ?_) (fun c_19 => ?_)
        · obtain ⟨k, hkn, rfl⟩ := k_nat hn c_2 c_10
          refine lv_iconst (v := 0) hx hb dX4_batch_26 (by decide) ?_
          refine va_put (D := Y.1) (ci := 3) (v := .int 0) (ty := .int) (C := RX4) (T := TX4) (N := 8) hx hb hts in_X4 tyX4 tyX4_ok nmX4 hown hK hP (md_D hh) hS 0 rfl rfl 0 (by decide) (hts _ q306) (fun _ h9 => h9) rfl (by decide +kernel) rfl rfl (Nat.le_of_ble_eq_true rfl) dX4_batch_27 (fun H locs hP _ hS => ?_)
          have hP : mH Y h ((n, e0), fB, fP, fX, fS, fL) 0 H := hP
          refine lv_aload_n hx hb dX4_batch_30 rfl (lv_at hl 0 rfl) ?_
          refine va_get (D := Y.1) (ci := 3) (v := .int 0) (C := RX4) (T := TX4) (N := 8) hx hb hts in_X4 hown hK hP 0 rfl rfl 0 (by decide) (hts _ q306) (fun _ h9 => h9) rfl dX4_batch_31 ?_
          refine lv_if_le (tgt := 39) hx hb dX4_batch_34 (by decide) (fun c_34 => ?_) (fun c_34 => ?_)
          · refine lv_iload_n hx hb dX4_batch_39 rfl (lv_at hl 2 rfl) ?_
            rcases w5 c_14 (i32_le.mpr c_19) with rfl | rfl | rfl | rfl | rfl | rfl
            · refine lv_tableIn (tgt := 76) hx hb dX4_batch_40 (by decide) (by decide) rfl (by decide) ?_
              refine lv_aload_n hx hb dX4_batch_76 rfl (lv_at hl 0 rfl) ?_
              refine va_get (D := Y.1) (ci := 3) (v := .ref (h 1)) (C := RX4) (T := TX4) (N := 8) hx hb hts in_X4 hown hK hP 0 rfl rfl 3 (by decide) (hts _ q309) (fun _ h9 => h9) rfl dX4_batch_77 ?_
              refine lv_iload_n hx hb dX4_batch_80 rfl (lv_at hl 1 rfl) ?_
              refine y_iald hx hb hK hP 1 0 fB rfl rfl k (by omega) (by decide) dX4_batch_81 ?_
              refine lv_i2l (v := (fB k).toInt64) hx hb dX4_batch_82 rfl ?_
              exact xlret hx hb hr hlk hS dX4_batch_83 ((by rw [ba_0 (L := ((n, e0), fB, fP, fX, fS, fL)) hkn hn]; exact ⟨rfl, hP⟩))
            · refine lv_tableIn (tgt := 84) hx hb dX4_batch_40 (by decide) (by decide) rfl (by decide) ?_
              refine lv_aload_n hx hb dX4_batch_84 rfl (lv_at hl 0 rfl) ?_
              refine va_get (D := Y.1) (ci := 3) (v := .ref (h 2)) (C := RX4) (T := TX4) (N := 8) hx hb hts in_X4 hown hK hP 0 rfl rfl 4 (by decide) (hts _ q310) (fun _ h9 => h9) rfl dX4_batch_85 ?_
              refine lv_iload_n hx hb dX4_batch_88 rfl (lv_at hl 1 rfl) ?_
              refine y_lald hx hb hK hP 2 1 fP rfl rfl k (by omega) (by decide) dX4_batch_89 ?_
              exact xlret hx hb hr hlk hS dX4_batch_90 ((by rw [ba_1 (L := ((n, e0), fB, fP, fX, fS, fL)) hkn hn]; exact ⟨rfl, hP⟩))
            · refine lv_tableIn (tgt := 91) hx hb dX4_batch_40 (by decide) (by decide) rfl (by decide) ?_
              refine lv_aload_n hx hb dX4_batch_91 rfl (lv_at hl 0 rfl) ?_
              refine va_get (D := Y.1) (ci := 3) (v := .ref (h 3)) (C := RX4) (T := TX4) (N := 8) hx hb hts in_X4 hown hK hP 0 rfl rfl 5 (by decide) (hts _ q311) (fun _ h9 => h9) rfl dX4_batch_92 ?_
              refine lv_iload_n hx hb dX4_batch_95 rfl (lv_at hl 1 rfl) ?_
              refine y_iald hx hb hK hP 3 0 fX rfl rfl k (by omega) (by decide) dX4_batch_96 ?_
              refine lv_i2l (v := (fX k).toInt64) hx hb dX4_batch_97 rfl ?_
              exact xlret hx hb hr hlk hS dX4_batch_98 ((by rw [ba_2 (L := ((n, e0), fB, fP, fX, fS, fL)) hkn hn]; exact ⟨rfl, hP⟩))
            · refine lv_tableIn (tgt := 99) hx hb dX4_batch_40 (by decide) (by decide) rfl (by decide) ?_
              refine lv_aload_n hx hb dX4_batch_99 rfl (lv_at hl 0 rfl) ?_
              refine va_get (D := Y.1) (ci := 3) (v := .ref (h 4)) (C := RX4) (T := TX4) (N := 8) hx hb hts in_X4 hown hK hP 0 rfl rfl 6 (by decide) (hts _ q312) (fun _ h9 => h9) rfl dX4_batch_100 ?_
              refine lv_iload_n hx hb dX4_batch_103 rfl (lv_at hl 1 rfl) ?_
              refine y_iald hx hb hK hP 4 0 fS rfl rfl k (by omega) (by decide) dX4_batch_104 ?_
              refine lv_i2l (v := (fS k).toInt64) hx hb dX4_batch_105 rfl ?_
              exact xlret hx hb hr hlk hS dX4_batch_106 ((by rw [ba_3 (L := ((n, e0), fB, fP, fX, fS, fL)) hkn hn]; exact ⟨rfl, hP⟩))
            · refine lv_tableIn (tgt := 107) hx hb dX4_batch_40 (by decide) (by decide) rfl (by decide) ?_
              refine lv_aload_n hx hb dX4_batch_107 rfl (lv_at hl 0 rfl) ?_
              refine va_get (D := Y.1) (ci := 3) (v := .ref (h 5)) (C := RX4) (T := TX4) (N := 8) hx hb hts in_X4 hown hK hP 0 rfl rfl 7 (by decide) (hts _ q313) (fun _ h9 => h9) rfl dX4_batch_108 ?_
              refine lv_iload_n hx hb dX4_batch_111 rfl (lv_at hl 1 rfl) ?_
              refine y_iald hx hb hK hP 5 0 fL rfl rfl k (by omega) (by decide) dX4_batch_112 ?_
              refine lv_i2l (v := (fL k).toInt64) hx hb dX4_batch_113 rfl ?_
              exact xlret hx hb hr hlk hS dX4_batch_114 ((by rw [ba_4 (L := ((n, e0), fB, fP, fX, fS, fL)) hkn hn]; exact ⟨rfl, hP⟩))
            · refine lv_tableOut (tgt := 115) hx hb dX4_batch_40 (Or.inr (by decide)) (by decide) ?_
              refine lv_aload_n hx hb dX4_batch_115 rfl (lv_at hl 0 rfl) ?_
              refine lv_iload_n hx hb dX4_batch_116 rfl (lv_at hl 1 rfl) ?_
              by_cases hkk : kno fP k n
              · refine xgoI (xrunV (As := [.int (nI k)]) (rest := []) ⟨hx, hb, hml, hown, hts⟩ (mX4_isKnown l Y h hh H.size ((n, e0), fB, fP, fX, fS, fL) _ k hkn hn) (cwV 1 hts (lw_V q376 q378 qs8 q14 q379) rfl rfl rfl (by decide +kernel) ⟨Nat.le_of_ble_eq_true rfl, Nat.le_of_ble_eq_true rfl⟩) ⟨mPre_bl, va_recv hK hP (ci := 3) (q0 := 0) rfl rfl, fun U hU hW => ⟨rfl, by rw [hU], by rw [hU]; exact hP, hYK.moved hW.alike⟩⟩ rfl rfl hl.1 rfl (lv_room (Nat.le_of_ble_eq_true rfl)) dX4_batch_117 ⟨Nat.le_of_ble_eq_true rfl, Nat.le_of_ble_eq_true rfl⟩) hS (fun q _ h => aA.le hS.1 h) (fun q h => aA.le hS.1 h) (fun H locs hP hz hk hS => ?_)
                refine xi_eq 1 (if_pos hkk) ?_
                refine lv_if_eq (tgt := 127) hx hb dX4_batch_120 (by decide) (fun c_120 => ?_) (fun c_120 => ?_)
                · exact absurd c_120 (by decide)
                · refine lv_lconst (v := 1) hx hb dX4_batch_123 (by decide) ?_
                  refine lv_goto (tgt := 128) hx hb dX4_batch_124 (by decide) ?_
                  exact xlret hx hb hr hlk hS dX4_batch_128 ((by rw [ba_5 (L := ((n, e0), fB, fP, fX, fS, fL)) hkn hn, if_pos hkk]; exact ⟨rfl, hP⟩))
              · refine xgoI (xrunV (As := [.int (nI k)]) (rest := []) ⟨hx, hb, hml, hown, hts⟩ (mX4_isKnown l Y h hh H.size ((n, e0), fB, fP, fX, fS, fL) _ k hkn hn) (cwV 1 hts (lw_V q376 q378 qs8 q14 q379) rfl rfl rfl (by decide +kernel) ⟨Nat.le_of_ble_eq_true rfl, Nat.le_of_ble_eq_true rfl⟩) ⟨mPre_bl, va_recv hK hP (ci := 3) (q0 := 0) rfl rfl, fun U hU hW => ⟨rfl, by rw [hU], by rw [hU]; exact hP, hYK.moved hW.alike⟩⟩ rfl rfl hl.1 rfl (lv_room (Nat.le_of_ble_eq_true rfl)) dX4_batch_117 ⟨Nat.le_of_ble_eq_true rfl, Nat.le_of_ble_eq_true rfl⟩) hS (fun q _ h => aA.le hS.1 h) (fun q h => aA.le hS.1 h) (fun H locs hP hz hk hS => ?_)
                refine xi_eq 0 (if_neg hkk) ?_
                refine lv_if_eq (tgt := 127) hx hb dX4_batch_120 (by decide) (fun c_120 => ?_) (fun c_120 => ?_)
                · refine lv_lconst (v := 0) hx hb dX4_batch_127 (by decide) ?_
                  exact xlret hx hb hr hlk hS dX4_batch_128 ((by rw [ba_5 (L := ((n, e0), fB, fP, fX, fS, fL)) hkn hn, if_neg hkk]; exact ⟨rfl, hP⟩))
                · exact absurd (rfl) c_120
          · exact absurd (by decide) c_34
        · refine lv_iconst (v := 1) hx hb dX4_batch_22 (by decide) ?_
          refine lv_goto (tgt := 27) hx hb dX4_batch_23 (by decide) ?_
          refine va_put (D := Y.1) (ci := 3) (v := .int 1) (ty := .int) (C := RX4) (T := TX4) (N := 8) hx hb hts in_X4 tyX4 tyX4_ok nmX4 hown hK hP (md_D hh) hS 0 rfl rfl 0 (by decide) (hts _ q306) (fun _ h9 => h9) rfl (by decide +kernel) rfl rfl (Nat.le_of_ble_eq_true rfl) dX4_batch_27 (fun H locs hP _ hS => ?_)
          have hP : mH Y h ((n, e0), fB, fP, fX, fS, fL) 1 H := hP
          refine lv_aload_n hx hb dX4_batch_30 rfl (lv_at hl 0 rfl) ?_
          refine va_get (D := Y.1) (ci := 3) (v := .int 1) (C := RX4) (T := TX4) (N := 8) hx hb hts in_X4 hown hK hP 0 rfl rfl 0 (by decide) (hts _ q306) (fun _ h9 => h9) rfl dX4_batch_31 ?_
          refine lv_if_le (tgt := 39) hx hb dX4_batch_34 (by decide) (fun c_34 => ?_) (fun c_34 => ?_)
          · exact absurd c_34 (by decide)
          · refine lv_lconst (v := 0) hx hb dX4_batch_37 (by decide) ?_
            exact xlret hx hb hr hlk hS dX4_batch_38 ((by rw [ba_bad (L := ((n, e0), fB, fP, fX, fS, fL)) (Or.inr (Or.inr (Or.inr (i32_lt.mp c_19))))]; exact ⟨rfl, hP⟩))
set_option maxHeartbeats 4000000 in
theorem mX4_count (l : Launch) (Y : YT) (h : Nat → Nat) (hh : aD 6 h) (sz : Nat) (L : Lg) (cd : Int32) (w1 : Int32) (hlg : LogOK L) : XMet l yX4_count (ws_ yX4_count cX4_count 4 (some .int)) ({ frames := 1, cells := 0, slots := 0, locals := 23 }) (mPre Y h L cd sz [.ref (h 0), .int w1]) (xQ (pI (coR L w1).2 (mH Y h L (coR L w1).1)) (aA 6 h sz)) 0 0 (aA 6 h sz) := by
  refine XMet.ofW (cc := cX4_count) (maxL := 4) (ret := (some .int)) (by decide) rfl ?_
  intro p e s m args below meth c s₁ B hml hno hv
  obtain ⟨rfl, hsz, hP, hYK⟩ := hv
  obtain ⟨⟨n, e0⟩, fB, fP, fX, fS, fL⟩ := L
  have hx := B.exec
  have hb := B.bytes
  have hr := B.returns
  have hlk := B.notSynchronized
  have hts := atoms_spec (ws := ws_ yX4_count cX4_count 4 (some .int)) B.pre
  have hts : ∀ w ∈ lw_all, w.before _ s = true := fun w h => hts w (List.mem_cons_of_mem _ h)
  have hown : s.vm.findClass RX4 = some m.cls := findClass_of_methodNamed B.named
  subst hsz
  have hK := hYK.1
  have hP0 := hP
  have hS : va_S (aA 6 h s.heap.size) s.heap s.heap [] := va_S.rf
  have hl := lv_entry [.ref (h 0), .int w1] (n := 4) (Nat.le_of_ble_eq_true rfl)
  rw [lg_entry_eq]
  generalize (lg_sl [.ref (h 0), .int w1] ++ List.replicate (4 - (lg_sl [.ref (h 0), .int w1]).length) Slot.unset).toArray = ls at hl ⊢
  have hl : lv_has ls 4 [(0, .ref (h 0)), (1, .int w1)] := hl
  have hn : n ≤ 2000 := hlg.1
  refine lv_aload_n hx hb dX4_count_0 rfl (lv_at hl 0 rfl) ?_
  refine lv_iload_n hx hb dX4_count_1 rfl (lv_at hl 1 rfl) ?_
  refine lv_if_lt (tgt := 10) hx hb dX4_count_2 (by decide) (fun c_2 => ?_) (fun c_2 => ?_)
  · refine lv_iconst (v := 1) hx hb dX4_count_10 (by decide) ?_
    refine lv_goto (tgt := 15) hx hb dX4_count_11 (by decide) ?_
    refine va_put (D := Y.1) (ci := 3) (v := .int 1) (ty := .int) (C := RX4) (T := TX4) (N := 8) hx hb hts in_X4 tyX4 tyX4_ok nmX4 hown hK hP (md_D hh) hS 0 rfl rfl 0 (by decide) (hts _ q306) (fun _ h9 => h9) rfl (by decide +kernel) rfl rfl (Nat.le_of_ble_eq_true rfl) dX4_count_15 (fun H locs hP _ hS => ?_)
    have hP : mH Y h ((n, e0), fB, fP, fX, fS, fL) 1 H := hP
    refine lv_aload_n hx hb dX4_count_18 rfl (lv_at hl 0 rfl) ?_
    refine va_get (D := Y.1) (ci := 3) (v := .int 1) (C := RX4) (T := TX4) (N := 8) hx hb hts in_X4 hown hK hP 0 rfl rfl 0 (by decide) (hts _ q306) (fun _ h9 => h9) rfl dX4_count_19 ?_
    refine lv_if_le (tgt := 27) hx hb dX4_count_22 (by decide) (fun c_22 => ?_) (fun c_22 => ?_)
    · exact absurd c_22 (by decide)
    · refine lv_iconst (v := 0) hx hb dX4_count_25 (by decide) ?_
      exact xiret hx hb hr hlk hS dX4_count_26 ((by rw [co_bad (L := ((n, e0), fB, fP, fX, fS, fL)) (Or.inl c_2)]; exact ⟨rfl, hP⟩))
  · refine lv_iload_n hx hb dX4_count_5 rfl (lv_at hl 1 rfl) ?_
    refine lv_iconst (v := 2) hx hb dX4_count_6 (by decide) ?_
    refine lv_icmp_le (tgt := 14) hx hb dX4_count_7 (by decide) (fun c_7 => ?_) (fun c_7 => ?_)
    · refine lv_iconst (v := 0) hx hb dX4_count_14 (by decide) ?_
      refine va_put (D := Y.1) (ci := 3) (v := .int 0) (ty := .int) (C := RX4) (T := TX4) (N := 8) hx hb hts in_X4 tyX4 tyX4_ok nmX4 hown hK hP (md_D hh) hS 0 rfl rfl 0 (by decide) (hts _ q306) (fun _ h9 => h9) rfl (by decide +kernel) rfl rfl (Nat.le_of_ble_eq_true rfl) dX4_count_15 (fun H locs hP _ hS => ?_)
      have hP : mH Y h ((n, e0), fB, fP, fX, fS, fL) 0 H := hP
      refine lv_aload_n hx hb dX4_count_18 rfl (lv_at hl 0 rfl) ?_
      refine va_get (D := Y.1) (ci := 3) (v := .int 0) (C := RX4) (T := TX4) (N := 8) hx hb hts in_X4 hown hK hP 0 rfl rfl 0 (by decide) (hts _ q306) (fun _ h9 => h9) rfl dX4_count_19 ?_
      refine lv_if_le (tgt := 27) hx hb dX4_count_22 (by decide) (fun c_22 => ?_) (fun c_22 => ?_)
      · refine lv_iload_n hx hb dX4_count_27 rfl (lv_at hl 1 rfl) ?_
        refine lv_iconst (v := 1) hx hb dX4_count_28 (by decide) ?_
        refine lv_icmp_eq (tgt := 48) hx hb dX4_count_29 (by decide) (fun c_29 => ?_) (fun c_29 => ?_)
        · refine lv_iconst (v := 0) hx hb dX4_count_48 (by decide) ?_
          refine xi_eq (nI (scn fP n 0)) (rfl) ?_
          refine lv_istore_n (lv' := [(2, .int (nI (scn fP n 0))), (0, .ref (h 0)), (1, .int w1)]) hx hb dX4_count_49 rfl hl (by decide) rfl (fun ls hl => ?_)
          refine lv_iconst (v := 0) hx hb dX4_count_50 (by decide) ?_
          refine xi_eq (nI 0) (nI_0.symm) ?_
          refine lv_istore_n (lv' := [(3, .int (nI 0)), (2, .int (nI (scn fP n 0))), (0, .ref (h 0)), (1, .int w1)]) hx hb dX4_count_51 rfl hl (by decide) rfl (fun ls hl => ?_)
          have loop : ∀ (k j : Nat), j + k = n → ∀ (H : Heap) (locs : List Loc), mH Y h ((n, e0), fB, fP, fX, fS, fL) 0 H → va_S (aA 6 h s.heap.size) s.heap H locs → ∀ (ls : Array Slot), lv_has ls 4 [(3, .int (nI j)), (2, .int (nI (scn fP n j))), (0, .ref (h 0)), (1, .int w1)] → W p l e (headSpec (ws_ yX4_count cX4_count 4 (some .int)) ({ frames := 1, cells := 0, slots := 0, locals := 23 })).room s m ([.ref (h 0), .int w1] : List Value).toArray below meth c H locs 0 0 (XMQ below (xQ (pI (coR ((n, e0), fB, fP, fX, fS, fL) w1).2 (mH Y h ((n, e0), fB, fP, fX, fS, fL) (coR ((n, e0), fB, fP, fX, fS, fL) w1).1)) (aA 6 h s.heap.size)) ([.ref (h 0), .int w1] : List Value).toArray s 0 0 (aA 6 h s.heap.size)) (F0 m 52 ls []) := by
            intro k
            induction k with
            | zero =>
              intro j hj H locs hP hS ls hl
              refine lv_iload_n hx hb dX4_count_52 rfl (lv_at hl 0 rfl) ?_
              refine lv_aload_n hx hb dX4_count_53 rfl (lv_at hl 2 rfl) ?_
              refine va_get (D := Y.1) (ci := 3) (v := .int (nI n)) (C := RX4) (T := TX4) (N := 8) hx hb hts in_X4 hown hK hP 0 rfl rfl 1 (by decide) (hts _ q307) (fun _ h9 => h9) rfl dX4_count_54 ?_
              refine lv_icmp_ge (tgt := 93) hx hb dX4_count_57 (by decide) (fun c_57 => ?_) (fun c_57 => ?_)
              · refine lv_iload_n hx hb dX4_count_93 rfl (lv_at hl 1 rfl) ?_
                exact xiret hx hb hr hlk hS dX4_count_94 ((by rw [co_ok (L := ((n, e0), fB, fP, fX, fS, fL)) c_2 (i32_le.mpr c_7), if_neg (by rw [c_29]; decide), if_pos c_29]; exact ⟨ri (by rw [show dcnt (gP ((n, e0), fB, fP, fX, fS, fL)) (gN ((n, e0), fB, fP, fX, fS, fL)) = scn fP n n from (scn_dcnt (fun k => (hlg.2.2 k).2.1) n).symm, show j = n by omega]), hP⟩))
              · exact absurd ((nI_le (by omega) (by omega) : nI n ≤ nI j)) c_57
            | succ k ih =>
              intro j hj H locs hP hS ls hl
              have hlt : ltr fP j n ≤ n := Nat.le_trans (Nat.sub_le _ _) (cnt_le _ _ _)
              refine lv_iload_n hx hb dX4_count_52 rfl (lv_at hl 0 rfl) ?_
              refine lv_aload_n hx hb dX4_count_53 rfl (lv_at hl 2 rfl) ?_
              refine va_get (D := Y.1) (ci := 3) (v := .int (nI n)) (C := RX4) (T := TX4) (N := 8) hx hb hts in_X4 hown hK hP 0 rfl rfl 1 (by decide) (hts _ q307) (fun _ h9 => h9) rfl dX4_count_54 ?_
              refine lv_icmp_ge (tgt := 93) hx hb dX4_count_57 (by decide) (fun c_57 => ?_) (fun c_57 => ?_)
              · exact absurd c_57 ((fun z => absurd ((nI_leI (a := n) (b := j) (by omega) (by omega)).mp z) (by omega)))
              · refine lv_iload_n hx hb dX4_count_60 rfl (lv_at hl 1 rfl) ?_
                refine lv_aload_n hx hb dX4_count_61 rfl (lv_at hl 2 rfl) ?_
                refine va_get (D := Y.1) (ci := 3) (v := .ref (h 2)) (C := RX4) (T := TX4) (N := 8) hx hb hts in_X4 hown hK hP 0 rfl rfl 4 (by decide) (hts _ q310) (fun _ h9 => h9) rfl dX4_count_62 ?_
                refine lv_iload_n hx hb dX4_count_65 rfl (lv_at hl 0 rfl) ?_
                refine y_lald hx hb hK hP 2 1 fP rfl rfl j (by omega) (by decide) dX4_count_66 ?_
                refine lv_lconst (v := 0) hx hb dX4_count_67 (by decide) ?_
                refine W.lcmp hx hb dX4_count_68 ?_
                refine lv_if_lt (tgt := 84) hx hb dX4_count_69 (by decide) (fun c_69 => ?_) (fun c_69 => ?_)
                · rw [lg_cmp_lt] at c_69
                  refine lv_iconst (v := 0) hx hb dX4_count_84 (by decide) ?_
                  refine lv_iadd hx hb dX4_count_85 ?_
                  refine xi_eq (nI (scn fP n (j + 1))) (by rw [scn, if_neg (fun z => i64_le.mpr z.1 c_69)]; exact Int32.add_zero _) ?_
                  refine lv_istore_n (lv' := [(2, .int (nI (scn fP n (j + 1)))), (3, .int (nI j)), (0, .ref (h 0)), (1, .int w1)]) hx hb dX4_count_86 rfl hl (by decide) rfl (fun ls hl => ?_)
                  refine lv_iinc (v := nI (j + 1)) (lv' := [(3, .int (nI (j + 1))), (2, .int (nI (scn fP n (j + 1)))), (0, .ref (h 0)), (1, .int w1)]) hx hb dX4_count_87 hl (k := 1) rfl (inc1 _) (by decide) rfl (fun ls hl => ?_)
                  refine lv_goto (tgt := 52) hx hb dX4_count_90 (by decide) ?_
                  exact ih (j + 1) (by omega) _ _ hP hS ls (lv_sub hl [0, 1, 2, 3] rfl)
                · rw [lg_cmp_lt] at c_69
                  refine lv_aload_n hx hb dX4_count_72 rfl (lv_at hl 2 rfl) ?_
                  refine lv_iload_n hx hb dX4_count_73 rfl (lv_at hl 0 rfl) ?_
                  refine xgoI (xrunV (As := [.int (nI j)]) (rest := [.int (nI (scn fP n j))]) ⟨hx, hb, hml, hown, hts⟩ (mX4_laterOnes l Y h hh H.size ((n, e0), fB, fP, fX, fS, fL) _ j (show j < n by omega) hn) (cwV 1 hts (lw_V q380 q382 qs9 q14 q383) rfl rfl rfl (by decide +kernel) ⟨Nat.le_of_ble_eq_true rfl, Nat.le_of_ble_eq_true rfl⟩) ⟨mPre_bl, va_recv hK hP (ci := 3) (q0 := 0) rfl rfl, fun U hU hW => ⟨rfl, by rw [hU], by rw [hU]; exact hP, hYK.moved hW.alike⟩⟩ rfl rfl hl.1 rfl (lv_room (Nat.le_of_ble_eq_true rfl)) dX4_count_74 ⟨Nat.le_of_ble_eq_true rfl, Nat.le_of_ble_eq_true rfl⟩) hS (fun q _ h => aA.le hS.1 h) (fun q h => aA.le hS.1 h) (fun H locs hP hz hk hS => ?_)
                  refine lv_if_ne (tgt := 84) hx hb dX4_count_77 (by decide) (fun c_77 => ?_) (fun c_77 => ?_)
                  · refine lv_iconst (v := 0) hx hb dX4_count_84 (by decide) ?_
                    refine lv_iadd hx hb dX4_count_85 ?_
                    refine xi_eq (nI (scn fP n (j + 1))) (by rw [scn, if_neg (fun z => c_77 (by rw [z.2]; rfl))]; exact Int32.add_zero _) ?_
                    refine lv_istore_n (lv' := [(2, .int (nI (scn fP n (j + 1)))), (3, .int (nI j)), (0, .ref (h 0)), (1, .int w1)]) hx hb dX4_count_86 rfl hl (by decide) rfl (fun ls hl => ?_)
                    refine lv_iinc (v := nI (j + 1)) (lv' := [(3, .int (nI (j + 1))), (2, .int (nI (scn fP n (j + 1)))), (0, .ref (h 0)), (1, .int w1)]) hx hb dX4_count_87 hl (k := 1) rfl (inc1 _) (by decide) rfl (fun ls hl => ?_)
                    refine lv_goto (tgt := 52) hx hb dX4_count_90 (by decide) ?_
                    exact ih (j + 1) (by omega) _ _ hP hS ls (lv_sub hl [0, 1, 2, 3] rfl)
                  · refine lv_iconst (v := 1) hx hb dX4_count_80 (by decide) ?_
                    refine lv_goto (tgt := 85) hx hb dX4_count_81 (by decide) ?_
                    refine lv_iadd hx hb dX4_count_85 ?_
                    refine xi_eq (nI (scn fP n (j + 1))) (by rw [scn, if_pos ⟨i64_le.mp c_69, (nI_eq (a := ltr fP j n) (b := 0) (by omega) (by decide)).mp c_77⟩]; exact nI_1 _) ?_
                    refine lv_istore_n (lv' := [(2, .int (nI (scn fP n (j + 1)))), (3, .int (nI j)), (0, .ref (h 0)), (1, .int w1)]) hx hb dX4_count_86 rfl hl (by decide) rfl (fun ls hl => ?_)
                    refine lv_iinc (v := nI (j + 1)) (lv' := [(3, .int (nI (j + 1))), (2, .int (nI (scn fP n (j + 1)))), (0, .ref (h 0)), (1, .int w1)]) hx hb dX4_count_87 hl (k := 1) rfl (inc1 _) (by decide) rfl (fun ls hl => ?_)
                    refine lv_goto (tgt := 52) hx hb dX4_count_90 (by decide) ?_
                    exact ih (j + 1) (by omega) _ _ hP hS ls (lv_sub hl [0, 1, 2, 3] rfl)
          exact loop n 0 (by omega) _ _ hP hS ls (lv_sub hl [0, 1, 2, 3] rfl)
        · refine lv_iload_n hx hb dX4_count_32 rfl (lv_at hl 1 rfl) ?_
          refine lv_if_ne (tgt := 43) hx hb dX4_count_33 (by decide) (fun c_33 => ?_) (fun c_33 => ?_)
          · refine lv_aload_n hx hb dX4_count_43 rfl (lv_at hl 0 rfl) ?_
            refine va_get (D := Y.1) (ci := 3) (v := .int e0) (C := RX4) (T := TX4) (N := 8) hx hb hts in_X4 hown hK hP 0 rfl rfl 2 (by decide) (hts _ q308) (fun _ h9 => h9) rfl dX4_count_44 ?_
            exact xiret hx hb hr hlk hS dX4_count_47 ((by rw [co_ok (L := ((n, e0), fB, fP, fX, fS, fL)) c_2 (i32_le.mpr c_7), if_neg c_33, if_neg c_29]; exact ⟨rfl, hP⟩))
          · refine lv_aload_n hx hb dX4_count_36 rfl (lv_at hl 0 rfl) ?_
            refine va_get (D := Y.1) (ci := 3) (v := .int (nI n)) (C := RX4) (T := TX4) (N := 8) hx hb hts in_X4 hown hK hP 0 rfl rfl 1 (by decide) (hts _ q307) (fun _ h9 => h9) rfl dX4_count_37 ?_
            refine lv_goto (tgt := 47) hx hb dX4_count_40 (by decide) ?_
            exact xiret hx hb hr hlk hS dX4_count_47 ((by rw [co_ok (L := ((n, e0), fB, fP, fX, fS, fL)) c_2 (i32_le.mpr c_7), if_pos c_33]; exact ⟨rfl, hP⟩))
      · exact absurd (by decide) c_22
    · refine lv_iconst (v := 1) hx hb dX4_count_10 (by decide) ?_
      refine lv_goto (tgt := 15) hx hb dX4_count_11 (by decide) ?_
      refine va_put (D := Y.1) (ci := 3) (v := .int 1) (ty := .int) (C := RX4) (T := TX4) (N := 8) hx hb hts in_X4 tyX4 tyX4_ok nmX4 hown hK hP (md_D hh) hS 0 rfl rfl 0 (by decide) (hts _ q306) (fun _ h9 => h9) rfl (by decide +kernel) rfl rfl (Nat.le_of_ble_eq_true rfl) dX4_count_15 (fun H locs hP _ hS => ?_)
      have hP : mH Y h ((n, e0), fB, fP, fX, fS, fL) 1 H := hP
      refine lv_aload_n hx hb dX4_count_18 rfl (lv_at hl 0 rfl) ?_
      refine va_get (D := Y.1) (ci := 3) (v := .int 1) (C := RX4) (T := TX4) (N := 8) hx hb hts in_X4 hown hK hP 0 rfl rfl 0 (by decide) (hts _ q306) (fun _ h9 => h9) rfl dX4_count_19 ?_
      refine lv_if_le (tgt := 27) hx hb dX4_count_22 (by decide) (fun c_22 => ?_) (fun c_22 => ?_)
      · exact absurd c_22 (by decide)
      · refine lv_iconst (v := 0) hx hb dX4_count_25 (by decide) ?_
        exact xiret hx hb hr hlk hS dX4_count_26 ((by rw [co_bad (L := ((n, e0), fB, fP, fX, fS, fL)) (Or.inr (i32_lt.mp c_7))]; exact ⟨rfl, hP⟩))
end
section
/-! THE CONSTRUCTORS (written by prog/ctor.py) -/
set_option maxRecDepth 100000
def iPre (Y : YT) (x : Nat × va_E) (sz : Nat) (av : List Value) : Array Value → State → Prop := va_Pc av (fun U => U.heap.size = sz ∧ va_P Y.1 vwCl [x] U.heap ∧ YK Y U)
theorem iPre_bl {Y : YT} {x : Nat × va_E} {sz : Nat} {av : List Value} : FrameBlind (iPre Y x sz av) := fun a U g mk q => by
  obtain ⟨q0, q1, qP, qK⟩ := q
  exact ⟨q0, q1, qP, YK.moved (u := U) (U := U.calling g mk a) (Vm.Alike.refl U.vm) qK⟩
abbrev rowsInit : Cond := .methodLinkNest "ProducerBook" 9 ({ cls := "ProducerBook$Rows", name := "<init>", desc := "()V" } : Jvm.MethodName) "ProducerBook"
def iPreN (Y : YT) (x : Nat × va_E) (sz : Nat) (av : List Value) : Array Value → State → Prop := va_Pc av (fun U => U.heap.size = sz ∧ va_P Y.1 vwCl [x] U.heap ∧ YK Y U ∧ va_Nw rowsInit U)
theorem iPreN_bl {Y : YT} {x : Nat × va_E} {sz : Nat} {av : List Value} : FrameBlind (iPreN Y x sz av) := fun a U g mk q => by
  obtain ⟨q0, q1, qP, qK, qN⟩ := q
  exact ⟨q0, q1, qP, YK.moved (u := U) (U := U.calling g mk a) (Vm.Alike.refl U.vm) qK, va_Nw.same rfl rfl qN⟩
theorem one_D {x : Nat × va_E} {sz : Nat} : va_D (va_A [x] sz) [x] := by
  refine ⟨fun i j p q hi hj _ => ?_, fun k q hk => va_A.in hk⟩
  have h1 := (List.getElem?_eq_some_iff.mp hi).1
  have h2 := (List.getElem?_eq_some_iff.mp hj).1
  simp at h1 h2
  omega
/-- the addresses of a world that are not its first one are new -/
theorem new_of {x y : Nat × va_E} {sz k : Nat} {ws : va_W} (hD : va_D (va_A [x] sz) (y :: ws)) (hy : y.1 = x.1) {q : Nat × va_E} (hq : ws[k]? = some q) : sz ≤ q.1 := by
  rcases hD.2 (k + 1) q (by simpa using hq) with ⟨i, e, h⟩ | h
  · have h1 := (List.getElem?_eq_some_iff.mp h).1
    simp at h1
    subst h1
    have h2 : x = (q.1, e) := by simpa using h
    have h3 := hD.1 0 (k + 1) y q rfl (by simpa using hq) (by rw [hy, h2])
    omega
  · exact h
theorem aD_of {N : Nat} {h : Nat → Nat} {ws : va_W} {A : Nat → Prop} (hD : va_D A ws) (hm : ws.map (fun q => q.1) = (List.range N).map h) : aD N h := by
  have hlen : ws.length = N := by
    have := congrArg List.length hm
    simpa using this
  intro i j hi hj e
  obtain ⟨x, hx⟩ : ∃ x, ws[i]? = some x := ⟨_, List.getElem?_eq_getElem (by omega)⟩
  obtain ⟨y, hy⟩ : ∃ y, ws[j]? = some y := ⟨_, List.getElem?_eq_getElem (by omega)⟩
  exact hD.1 i j x y hx hy (by rw [(at_of hm hx).2, (at_of hm hy).2, e])
abbrev Z32 : Nat → Int32 := fun _ => 0
abbrev Z64 : Nat → Int64 := fun _ => 0
def pg0 : Pg := (0, Z32, Z32, Z64, Z32, Z32)
set_option maxHeartbeats 4000000 in
theorem mX2_init (l : Launch) (Y : YT) (a sz : Nat) : XMet l yX2_init (ws_ yX2_init cX2_init 1 none) ({ frames := 1, cells := 6, slots := 12000, locals := 30 }) (iPre Y (a, .inr (1, [.null, .null, .null, .null, .null, .null, .int 0, .int 0])) sz [.ref a]) (xQ (pV (fun H => ∃ x0 x1 x2 x3 x4 x5 : Nat, va_D (va_A [(a, .inr (1, [.null, .null, .null, .null, .null, .null, .int 0, .int 0]))] sz) [(a, .inr (1, [.ref x0, .ref x1, .ref x2, .ref x3, .ref x4, .ref x5, .int 0, .int 0])), (x0, .inl (yI Y, 2000, .inl Z32)), (x1, .inl (yJ Y, 2000, .inr (.inl Z64))), (x2, .inl (yS Y, 2000, .inl Z32)), (x3, .inl (yI Y, 2000, .inl Z32)), (x4, .inl (yS Y, 2000, .inl Z32)), (x5, .inl (yZ Y, 2000, .inl Z32))] ∧ va_P Y.1 vwCl [(a, .inr (1, [.ref x0, .ref x1, .ref x2, .ref x3, .ref x4, .ref x5, .int 0, .int 0])), (x0, .inl (yI Y, 2000, .inl Z32)), (x1, .inl (yJ Y, 2000, .inr (.inl Z64))), (x2, .inl (yS Y, 2000, .inl Z32)), (x3, .inl (yI Y, 2000, .inl Z32)), (x4, .inl (yS Y, 2000, .inl Z32)), (x5, .inl (yZ Y, 2000, .inl Z32))] H)) (va_A [(a, .inr (1, [.null, .null, .null, .null, .null, .null, .int 0, .int 0]))] sz)) 6 12000 (va_A [(a, .inr (1, [.null, .null, .null, .null, .null, .null, .int 0, .int 0]))] sz) := by
  refine XMet.ofW (cc := cX2_init) (maxL := 1) (ret := none) (by decide) rfl ?_
  intro p e s m args below meth c s₁ B hml hno hv
  obtain ⟨rfl, hsz, hP, hYK⟩ := hv
  have hx := B.exec
  have hb := B.bytes
  have hr := B.returns
  have hlk := B.notSynchronized
  have hts := atoms_spec (ws := ws_ yX2_init cX2_init 1 none) B.pre
  have hts : ∀ w ∈ lw_all, w.before _ s = true := fun w h => hts w (List.mem_cons_of_mem _ h)
  have hown : s.vm.findClass RX2 = some m.cls := findClass_of_methodNamed B.named
  have hin : meth.name = "<init>" := (name_of_methodNamed B.named B.method).1
  subst hsz
  have hK := hYK.1
  have hD : va_D (va_A [(a, .inr (1, [.null, .null, .null, .null, .null, .null, .int 0, .int 0]))] s.heap.size) [(a, .inr (1, [.null, .null, .null, .null, .null, .null, .int 0, .int 0]))] := one_D
  generalize hAe : va_A [(a, .inr (1, [.null, .null, .null, .null, .null, .null, .int 0, .int 0]))] s.heap.size = A at hD ⊢
  have hA : ∀ q : Nat, s.heap.size ≤ q → A q := fun q h => by rw [← hAe]; exact Or.inr h
  have hS : va_S A s.heap s.heap [] := va_S.rf
  have hl := lv_entry [.ref a] (n := 1) (Nat.le_of_ble_eq_true rfl)
  rw [lg_entry_eq]
  generalize (lg_sl [.ref a] ++ List.replicate (1 - (lg_sl [.ref a]).length) Slot.unset).toArray = ls at hl ⊢
  have hl : lv_has ls 1 [(0, .ref a)] := hl
  refine lv_aload_n hx hb dX2_init_0 rfl (lv_at hl 0 rfl) ?_
  refine W.objInit hx hb hown (hts _ q34) (hts _ q27) (hts _ q28) rfl (by rw [hml]; exact hl.1) rfl dX2_init_1 (Nat.le_of_ble_eq_true rfl) (Nat.le_of_ble_eq_true rfl) ?_
  refine W.eq (g2 := F0 m 4 ls []) rfl ?_
  refine lv_aload_n hx hb dX2_init_4 rfl (lv_at hl 0 rfl) ?_
  refine lv_sipush (v := 2000) hx hb dX2_init_5 (by decide) ?_
  refine y_newa (atype := .int) (ty := .int) hx hb (hts _ q71) rfl (by intro C; exact nofun) hK hP hD hS hA 0 rfl (N' := 2000) (a0 := (2000, .inl Z32)) (fun _ => rfl) (by decide) (by decide) (by decide) (Nat.le_of_ble_eq_true rfl) (Nat.le_of_ble_eq_true rfl) dX2_init_8 (fun x0 H hP hD hS => ?_)
  have hP : va_P Y.1 vwCl [(a, .inr (1, [.null, .null, .null, .null, .null, .null, .int 0, .int 0])), (x0, .inl (yI Y, 2000, .inl Z32))] H := hP
  have hD : va_D A [(a, .inr (1, [.null, .null, .null, .null, .null, .null, .int 0, .int 0])), (x0, .inl (yI Y, 2000, .inl Z32))] := hD
  refine va_putF (D := Y.1) (ci := 1) (v := .ref x0) (ty := (.array .int)) (C := RX2) (T := TX2) (N := 8) hx hb hts in_X2 tyX2 tyX2_ok nmX2 hown hK hP hD hS 0 rfl rfl 0 (by decide) (hts _ q35) (fun _ h9 => h9) rfl hin rfl (by decide +kernel) rfl rfl (Nat.le_of_ble_eq_true rfl) dX2_init_10 (fun H locs hP hD hS => ?_)
  have hP : va_P Y.1 vwCl [(a, .inr (1, [.ref x0, .null, .null, .null, .null, .null, .int 0, .int 0])), (x0, .inl (yI Y, 2000, .inl Z32))] H := hP
  have hD : va_D A [(a, .inr (1, [.ref x0, .null, .null, .null, .null, .null, .int 0, .int 0])), (x0, .inl (yI Y, 2000, .inl Z32))] := hD
  refine lv_aload_n hx hb dX2_init_13 rfl (lv_at hl 0 rfl) ?_
  refine lv_sipush (v := 2000) hx hb dX2_init_14 (by decide) ?_
  refine y_newa (atype := .long) (ty := .long) hx hb (hts _ q72) rfl (by intro C; exact nofun) hK hP hD hS hA 1 rfl (N' := 2000) (a0 := (2000, .inr (.inl Z64))) (fun _ => rfl) (by decide) (by decide) (by decide) (Nat.le_of_ble_eq_true rfl) (Nat.le_of_ble_eq_true rfl) dX2_init_17 (fun x1 H hP hD hS => ?_)
  have hP : va_P Y.1 vwCl [(a, .inr (1, [.ref x0, .null, .null, .null, .null, .null, .int 0, .int 0])), (x0, .inl (yI Y, 2000, .inl Z32)), (x1, .inl (yJ Y, 2000, .inr (.inl Z64)))] H := hP
  have hD : va_D A [(a, .inr (1, [.ref x0, .null, .null, .null, .null, .null, .int 0, .int 0])), (x0, .inl (yI Y, 2000, .inl Z32)), (x1, .inl (yJ Y, 2000, .inr (.inl Z64)))] := hD
  refine va_putF (D := Y.1) (ci := 1) (v := .ref x1) (ty := (.array .long)) (C := RX2) (T := TX2) (N := 8) hx hb hts in_X2 tyX2 tyX2_ok nmX2 hown hK hP hD hS 0 rfl rfl 1 (by decide) (hts _ q37) (fun _ h9 => h9) rfl hin rfl (by decide +kernel) rfl rfl (Nat.le_of_ble_eq_true rfl) dX2_init_19 (fun H locs hP hD hS => ?_)
  have hP : va_P Y.1 vwCl [(a, .inr (1, [.ref x0, .ref x1, .null, .null, .null, .null, .int 0, .int 0])), (x0, .inl (yI Y, 2000, .inl Z32)), (x1, .inl (yJ Y, 2000, .inr (.inl Z64)))] H := hP
  have hD : va_D A [(a, .inr (1, [.ref x0, .ref x1, .null, .null, .null, .null, .int 0, .int 0])), (x0, .inl (yI Y, 2000, .inl Z32)), (x1, .inl (yJ Y, 2000, .inr (.inl Z64)))] := hD
  refine lv_aload_n hx hb dX2_init_22 rfl (lv_at hl 0 rfl) ?_
  refine lv_sipush (v := 2000) hx hb dX2_init_23 (by decide) ?_
  refine y_newa (atype := .short) (ty := .short) hx hb (hts _ q73) rfl (by intro C; exact nofun) hK hP hD hS hA 2 rfl (N' := 2000) (a0 := (2000, .inl Z32)) (fun _ => rfl) (by decide) (by decide) (by decide) (Nat.le_of_ble_eq_true rfl) (Nat.le_of_ble_eq_true rfl) dX2_init_26 (fun x2 H hP hD hS => ?_)
  have hP : va_P Y.1 vwCl [(a, .inr (1, [.ref x0, .ref x1, .null, .null, .null, .null, .int 0, .int 0])), (x0, .inl (yI Y, 2000, .inl Z32)), (x1, .inl (yJ Y, 2000, .inr (.inl Z64))), (x2, .inl (yS Y, 2000, .inl Z32))] H := hP
  have hD : va_D A [(a, .inr (1, [.ref x0, .ref x1, .null, .null, .null, .null, .int 0, .int 0])), (x0, .inl (yI Y, 2000, .inl Z32)), (x1, .inl (yJ Y, 2000, .inr (.inl Z64))), (x2, .inl (yS Y, 2000, .inl Z32))] := hD
  refine va_putF (D := Y.1) (ci := 1) (v := .ref x2) (ty := (.array .short)) (C := RX2) (T := TX2) (N := 8) hx hb hts in_X2 tyX2 tyX2_ok nmX2 hown hK hP hD hS 0 rfl rfl 2 (by decide) (hts _ q40) (fun _ h9 => h9) rfl hin rfl (by decide +kernel) rfl rfl (Nat.le_of_ble_eq_true rfl) dX2_init_28 (fun H locs hP hD hS => ?_)
  have hP : va_P Y.1 vwCl [(a, .inr (1, [.ref x0, .ref x1, .ref x2, .null, .null, .null, .int 0, .int 0])), (x0, .inl (yI Y, 2000, .inl Z32)), (x1, .inl (yJ Y, 2000, .inr (.inl Z64))), (x2, .inl (yS Y, 2000, .inl Z32))] H := hP
  have hD : va_D A [(a, .inr (1, [.ref x0, .ref x1, .ref x2, .null, .null, .null, .int 0, .int 0])), (x0, .inl (yI Y, 2000, .inl Z32)), (x1, .inl (yJ Y, 2000, .inr (.inl Z64))), (x2, .inl (yS Y, 2000, .inl Z32))] := hD
  refine lv_aload_n hx hb dX2_init_31 rfl (lv_at hl 0 rfl) ?_
  refine lv_sipush (v := 2000) hx hb dX2_init_32 (by decide) ?_
  refine y_newa (atype := .int) (ty := .int) hx hb (hts _ q71) rfl (by intro C; exact nofun) hK hP hD hS hA 0 rfl (N' := 2000) (a0 := (2000, .inl Z32)) (fun _ => rfl) (by decide) (by decide) (by decide) (Nat.le_of_ble_eq_true rfl) (Nat.le_of_ble_eq_true rfl) dX2_init_35 (fun x3 H hP hD hS => ?_)
  have hP : va_P Y.1 vwCl [(a, .inr (1, [.ref x0, .ref x1, .ref x2, .null, .null, .null, .int 0, .int 0])), (x0, .inl (yI Y, 2000, .inl Z32)), (x1, .inl (yJ Y, 2000, .inr (.inl Z64))), (x2, .inl (yS Y, 2000, .inl Z32)), (x3, .inl (yI Y, 2000, .inl Z32))] H := hP
  have hD : va_D A [(a, .inr (1, [.ref x0, .ref x1, .ref x2, .null, .null, .null, .int 0, .int 0])), (x0, .inl (yI Y, 2000, .inl Z32)), (x1, .inl (yJ Y, 2000, .inr (.inl Z64))), (x2, .inl (yS Y, 2000, .inl Z32)), (x3, .inl (yI Y, 2000, .inl Z32))] := hD
  refine va_putF (D := Y.1) (ci := 1) (v := .ref x3) (ty := (.array .int)) (C := RX2) (T := TX2) (N := 8) hx hb hts in_X2 tyX2 tyX2_ok nmX2 hown hK hP hD hS 0 rfl rfl 3 (by decide) (hts _ q42) (fun _ h9 => h9) rfl hin rfl (by decide +kernel) rfl rfl (Nat.le_of_ble_eq_true rfl) dX2_init_37 (fun H locs hP hD hS => ?_)
  have hP : va_P Y.1 vwCl [(a, .inr (1, [.ref x0, .ref x1, .ref x2, .ref x3, .null, .null, .int 0, .int 0])), (x0, .inl (yI Y, 2000, .inl Z32)), (x1, .inl (yJ Y, 2000, .inr (.inl Z64))), (x2, .inl (yS Y, 2000, .inl Z32)), (x3, .inl (yI Y, 2000, .inl Z32))] H := hP
  have hD : va_D A [(a, .inr (1, [.ref x0, .ref x1, .ref x2, .ref x3, .null, .null, .int 0, .int 0])), (x0, .inl (yI Y, 2000, .inl Z32)), (x1, .inl (yJ Y, 2000, .inr (.inl Z64))), (x2, .inl (yS Y, 2000, .inl Z32)), (x3, .inl (yI Y, 2000, .inl Z32))] := hD
  refine lv_aload_n hx hb dX2_init_40 rfl (lv_at hl 0 rfl) ?_
  refine lv_sipush (v := 2000) hx hb dX2_init_41 (by decide) ?_
  refine y_newa (atype := .short) (ty := .short) hx hb (hts _ q73) rfl (by intro C; exact nofun) hK hP hD hS hA 2 rfl (N' := 2000) (a0 := (2000, .inl Z32)) (fun _ => rfl) (by decide) (by decide) (by decide) (Nat.le_of_ble_eq_true rfl) (Nat.le_of_ble_eq_true rfl) dX2_init_44 (fun x4 H hP hD hS => ?_)
  have hP : va_P Y.1 vwCl [(a, .inr (1, [.ref x0, .ref x1, .ref x2, .ref x3, .null, .null, .int 0, .int 0])), (x0, .inl (yI Y, 2000, .inl Z32)), (x1, .inl (yJ Y, 2000, .inr (.inl Z64))), (x2, .inl (yS Y, 2000, .inl Z32)), (x3, .inl (yI Y, 2000, .inl Z32)), (x4, .inl (yS Y, 2000, .inl Z32))] H := hP
  have hD : va_D A [(a, .inr (1, [.ref x0, .ref x1, .ref x2, .ref x3, .null, .null, .int 0, .int 0])), (x0, .inl (yI Y, 2000, .inl Z32)), (x1, .inl (yJ Y, 2000, .inr (.inl Z64))), (x2, .inl (yS Y, 2000, .inl Z32)), (x3, .inl (yI Y, 2000, .inl Z32)), (x4, .inl (yS Y, 2000, .inl Z32))] := hD
  refine va_putF (D := Y.1) (ci := 1) (v := .ref x4) (ty := (.array .short)) (C := RX2) (T := TX2) (N := 8) hx hb hts in_X2 tyX2 tyX2_ok nmX2 hown hK hP hD hS 0 rfl rfl 4 (by decide) (hts _ q44) (fun _ h9 => h9) rfl hin rfl (by decide +kernel) rfl rfl (Nat.le_of_ble_eq_true rfl) dX2_init_46 (fun H locs hP hD hS => ?_)
  have hP : va_P Y.1 vwCl [(a, .inr (1, [.ref x0, .ref x1, .ref x2, .ref x3, .ref x4, .null, .int 0, .int 0])), (x0, .inl (yI Y, 2000, .inl Z32)), (x1, .inl (yJ Y, 2000, .inr (.inl Z64))), (x2, .inl (yS Y, 2000, .inl Z32)), (x3, .inl (yI Y, 2000, .inl Z32)), (x4, .inl (yS Y, 2000, .inl Z32))] H := hP
  have hD : va_D A [(a, .inr (1, [.ref x0, .ref x1, .ref x2, .ref x3, .ref x4, .null, .int 0, .int 0])), (x0, .inl (yI Y, 2000, .inl Z32)), (x1, .inl (yJ Y, 2000, .inr (.inl Z64))), (x2, .inl (yS Y, 2000, .inl Z32)), (x3, .inl (yI Y, 2000, .inl Z32)), (x4, .inl (yS Y, 2000, .inl Z32))] := hD
  refine lv_aload_n hx hb dX2_init_49 rfl (lv_at hl 0 rfl) ?_
  refine lv_sipush (v := 2000) hx hb dX2_init_50 (by decide) ?_
  refine y_newa (atype := .boolean) (ty := .boolean) hx hb (hts _ q74) rfl (by intro C; exact nofun) hK hP hD hS hA 3 rfl (N' := 2000) (a0 := (2000, .inl Z32)) (fun _ => rfl) (by decide) (by decide) (by decide) (Nat.le_of_ble_eq_true rfl) (Nat.le_of_ble_eq_true rfl) dX2_init_53 (fun x5 H hP hD hS => ?_)
  have hP : va_P Y.1 vwCl [(a, .inr (1, [.ref x0, .ref x1, .ref x2, .ref x3, .ref x4, .null, .int 0, .int 0])), (x0, .inl (yI Y, 2000, .inl Z32)), (x1, .inl (yJ Y, 2000, .inr (.inl Z64))), (x2, .inl (yS Y, 2000, .inl Z32)), (x3, .inl (yI Y, 2000, .inl Z32)), (x4, .inl (yS Y, 2000, .inl Z32)), (x5, .inl (yZ Y, 2000, .inl Z32))] H := hP
  have hD : va_D A [(a, .inr (1, [.ref x0, .ref x1, .ref x2, .ref x3, .ref x4, .null, .int 0, .int 0])), (x0, .inl (yI Y, 2000, .inl Z32)), (x1, .inl (yJ Y, 2000, .inr (.inl Z64))), (x2, .inl (yS Y, 2000, .inl Z32)), (x3, .inl (yI Y, 2000, .inl Z32)), (x4, .inl (yS Y, 2000, .inl Z32)), (x5, .inl (yZ Y, 2000, .inl Z32))] := hD
  refine va_putF (D := Y.1) (ci := 1) (v := .ref x5) (ty := (.array .boolean)) (C := RX2) (T := TX2) (N := 8) hx hb hts in_X2 tyX2 tyX2_ok nmX2 hown hK hP hD hS 0 rfl rfl 5 (by decide) (hts _ q46) (fun _ h9 => h9) rfl hin rfl (by decide +kernel) rfl rfl (Nat.le_of_ble_eq_true rfl) dX2_init_55 (fun H locs hP hD hS => ?_)
  have hP : va_P Y.1 vwCl [(a, .inr (1, [.ref x0, .ref x1, .ref x2, .ref x3, .ref x4, .ref x5, .int 0, .int 0])), (x0, .inl (yI Y, 2000, .inl Z32)), (x1, .inl (yJ Y, 2000, .inr (.inl Z64))), (x2, .inl (yS Y, 2000, .inl Z32)), (x3, .inl (yI Y, 2000, .inl Z32)), (x4, .inl (yS Y, 2000, .inl Z32)), (x5, .inl (yZ Y, 2000, .inl Z32))] H := hP
  have hD : va_D A [(a, .inr (1, [.ref x0, .ref x1, .ref x2, .ref x3, .ref x4, .ref x5, .int 0, .int 0])), (x0, .inl (yI Y, 2000, .inl Z32)), (x1, .inl (yJ Y, 2000, .inr (.inl Z64))), (x2, .inl (yS Y, 2000, .inl Z32)), (x3, .inl (yI Y, 2000, .inl Z32)), (x4, .inl (yS Y, 2000, .inl Z32)), (x5, .inl (yZ Y, 2000, .inl Z32))] := hD
  subst hAe
  refine W.widen (k := 6) (n := 12000) (by decide) (by decide) ?_
  exact xvret hx hb hr hlk hS dX2_init_58 ⟨rfl, x0, x1, x2, x3, x4, x5, hD, hP⟩
set_option maxHeartbeats 4000000 in
theorem mX3_init (l : Launch) (Y : YT) (a r1 sz : Nat) : XMet l yX3_init (ws_ yX3_init cX3_init 2 none) ({ frames := 1, cells := 4, slots := 18096, locals := 30 }) (iPre Y (a, .inr (2, [.null, .null, .null, .null, .null, .int 0])) sz [.ref a, .ref r1]) (xQ (pV (fun H => ∃ x0 x1 x2 x3 : Nat, va_D (va_A [(a, .inr (2, [.null, .null, .null, .null, .null, .int 0]))] sz) [(a, .inr (2, [.ref r1, .ref x0, .ref x1, .ref x2, .ref x3, .int 0])), (x0, .inl (yS Y, 4096, .inl Z32)), (x1, .inl (yJ Y, 2000, .inr (.inl Z64))), (x2, .inl (yS Y, 10000, .inl Z32)), (x3, .inl (yI Y, 2000, .inl Z32))] ∧ va_P Y.1 vwCl [(a, .inr (2, [.ref r1, .ref x0, .ref x1, .ref x2, .ref x3, .int 0])), (x0, .inl (yS Y, 4096, .inl Z32)), (x1, .inl (yJ Y, 2000, .inr (.inl Z64))), (x2, .inl (yS Y, 10000, .inl Z32)), (x3, .inl (yI Y, 2000, .inl Z32))] H)) (va_A [(a, .inr (2, [.null, .null, .null, .null, .null, .int 0]))] sz)) 4 18096 (va_A [(a, .inr (2, [.null, .null, .null, .null, .null, .int 0]))] sz) := by
  refine XMet.ofW (cc := cX3_init) (maxL := 2) (ret := none) (by decide) rfl ?_
  intro p e s m args below meth c s₁ B hml hno hv
  obtain ⟨rfl, hsz, hP, hYK⟩ := hv
  have hx := B.exec
  have hb := B.bytes
  have hr := B.returns
  have hlk := B.notSynchronized
  have hts := atoms_spec (ws := ws_ yX3_init cX3_init 2 none) B.pre
  have hts : ∀ w ∈ lw_all, w.before _ s = true := fun w h => hts w (List.mem_cons_of_mem _ h)
  have hown : s.vm.findClass RX3 = some m.cls := findClass_of_methodNamed B.named
  have hin : meth.name = "<init>" := (name_of_methodNamed B.named B.method).1
  subst hsz
  have hK := hYK.1
  have hD : va_D (va_A [(a, .inr (2, [.null, .null, .null, .null, .null, .int 0]))] s.heap.size) [(a, .inr (2, [.null, .null, .null, .null, .null, .int 0]))] := one_D
  generalize hAe : va_A [(a, .inr (2, [.null, .null, .null, .null, .null, .int 0]))] s.heap.size = A at hD ⊢
  have hA : ∀ q : Nat, s.heap.size ≤ q → A q := fun q h => by rw [← hAe]; exact Or.inr h
  have hS : va_S A s.heap s.heap [] := va_S.rf
  have hl := lv_entry [.ref a, .ref r1] (n := 2) (Nat.le_of_ble_eq_true rfl)
  rw [lg_entry_eq]
  generalize (lg_sl [.ref a, .ref r1] ++ List.replicate (2 - (lg_sl [.ref a, .ref r1]).length) Slot.unset).toArray = ls at hl ⊢
  have hl : lv_has ls 2 [(0, .ref a), (1, .ref r1)] := hl
  refine lv_aload_n hx hb dX3_init_0 rfl (lv_at hl 0 rfl) ?_
  refine W.objInit hx hb hown (hts _ q80) (hts _ q27) (hts _ q28) rfl (by rw [hml]; exact hl.1) rfl dX3_init_1 (Nat.le_of_ble_eq_true rfl) (Nat.le_of_ble_eq_true rfl) ?_
  refine W.eq (g2 := F0 m 4 ls []) rfl ?_
  refine lv_aload_n hx hb dX3_init_4 rfl (lv_at hl 0 rfl) ?_
  refine lv_sipush (v := 4096) hx hb dX3_init_5 (by decide) ?_
  refine y_newa (atype := .short) (ty := .short) hx hb (hts _ q73) rfl (by intro C; exact nofun) hK hP hD hS hA 2 rfl (N' := 4096) (a0 := (4096, .inl Z32)) (fun _ => rfl) (by decide) (by decide) (by decide) (Nat.le_of_ble_eq_true rfl) (Nat.le_of_ble_eq_true rfl) dX3_init_8 (fun x0 H hP hD hS => ?_)
  have hP : va_P Y.1 vwCl [(a, .inr (2, [.null, .null, .null, .null, .null, .int 0])), (x0, .inl (yS Y, 4096, .inl Z32))] H := hP
  have hD : va_D A [(a, .inr (2, [.null, .null, .null, .null, .null, .int 0])), (x0, .inl (yS Y, 4096, .inl Z32))] := hD
  refine va_putF (D := Y.1) (ci := 2) (v := .ref x0) (ty := (.array .short)) (C := RX3) (T := TX3) (N := 6) hx hb hts in_X3 tyX3 tyX3_ok nmX3 hown hK hP hD hS 0 rfl rfl 1 (by decide) (hts _ q82) (fun _ h9 => h9) rfl hin rfl (by decide +kernel) rfl rfl (Nat.le_of_ble_eq_true rfl) dX3_init_10 (fun H locs hP hD hS => ?_)
  have hP : va_P Y.1 vwCl [(a, .inr (2, [.null, .ref x0, .null, .null, .null, .int 0])), (x0, .inl (yS Y, 4096, .inl Z32))] H := hP
  have hD : va_D A [(a, .inr (2, [.null, .ref x0, .null, .null, .null, .int 0])), (x0, .inl (yS Y, 4096, .inl Z32))] := hD
  refine lv_aload_n hx hb dX3_init_13 rfl (lv_at hl 0 rfl) ?_
  refine lv_sipush (v := 2000) hx hb dX3_init_14 (by decide) ?_
  refine y_newa (atype := .long) (ty := .long) hx hb (hts _ q72) rfl (by intro C; exact nofun) hK hP hD hS hA 1 rfl (N' := 2000) (a0 := (2000, .inr (.inl Z64))) (fun _ => rfl) (by decide) (by decide) (by decide) (Nat.le_of_ble_eq_true rfl) (Nat.le_of_ble_eq_true rfl) dX3_init_17 (fun x1 H hP hD hS => ?_)
  have hP : va_P Y.1 vwCl [(a, .inr (2, [.null, .ref x0, .null, .null, .null, .int 0])), (x0, .inl (yS Y, 4096, .inl Z32)), (x1, .inl (yJ Y, 2000, .inr (.inl Z64)))] H := hP
  have hD : va_D A [(a, .inr (2, [.null, .ref x0, .null, .null, .null, .int 0])), (x0, .inl (yS Y, 4096, .inl Z32)), (x1, .inl (yJ Y, 2000, .inr (.inl Z64)))] := hD
  refine va_putF (D := Y.1) (ci := 2) (v := .ref x1) (ty := (.array .long)) (C := RX3) (T := TX3) (N := 6) hx hb hts in_X3 tyX3 tyX3_ok nmX3 hown hK hP hD hS 0 rfl rfl 2 (by decide) (hts _ q83) (fun _ h9 => h9) rfl hin rfl (by decide +kernel) rfl rfl (Nat.le_of_ble_eq_true rfl) dX3_init_19 (fun H locs hP hD hS => ?_)
  have hP : va_P Y.1 vwCl [(a, .inr (2, [.null, .ref x0, .ref x1, .null, .null, .int 0])), (x0, .inl (yS Y, 4096, .inl Z32)), (x1, .inl (yJ Y, 2000, .inr (.inl Z64)))] H := hP
  have hD : va_D A [(a, .inr (2, [.null, .ref x0, .ref x1, .null, .null, .int 0])), (x0, .inl (yS Y, 4096, .inl Z32)), (x1, .inl (yJ Y, 2000, .inr (.inl Z64)))] := hD
  refine lv_aload_n hx hb dX3_init_22 rfl (lv_at hl 0 rfl) ?_
  refine lv_sipush (v := 10000) hx hb dX3_init_23 (by decide) ?_
  refine y_newa (atype := .short) (ty := .short) hx hb (hts _ q73) rfl (by intro C; exact nofun) hK hP hD hS hA 2 rfl (N' := 10000) (a0 := (10000, .inl Z32)) (fun _ => rfl) (by decide) (by decide) (by decide) (Nat.le_of_ble_eq_true rfl) (Nat.le_of_ble_eq_true rfl) dX3_init_26 (fun x2 H hP hD hS => ?_)
  have hP : va_P Y.1 vwCl [(a, .inr (2, [.null, .ref x0, .ref x1, .null, .null, .int 0])), (x0, .inl (yS Y, 4096, .inl Z32)), (x1, .inl (yJ Y, 2000, .inr (.inl Z64))), (x2, .inl (yS Y, 10000, .inl Z32))] H := hP
  have hD : va_D A [(a, .inr (2, [.null, .ref x0, .ref x1, .null, .null, .int 0])), (x0, .inl (yS Y, 4096, .inl Z32)), (x1, .inl (yJ Y, 2000, .inr (.inl Z64))), (x2, .inl (yS Y, 10000, .inl Z32))] := hD
  refine va_putF (D := Y.1) (ci := 2) (v := .ref x2) (ty := (.array .short)) (C := RX3) (T := TX3) (N := 6) hx hb hts in_X3 tyX3 tyX3_ok nmX3 hown hK hP hD hS 0 rfl rfl 3 (by decide) (hts _ q84) (fun _ h9 => h9) rfl hin rfl (by decide +kernel) rfl rfl (Nat.le_of_ble_eq_true rfl) dX3_init_28 (fun H locs hP hD hS => ?_)
  have hP : va_P Y.1 vwCl [(a, .inr (2, [.null, .ref x0, .ref x1, .ref x2, .null, .int 0])), (x0, .inl (yS Y, 4096, .inl Z32)), (x1, .inl (yJ Y, 2000, .inr (.inl Z64))), (x2, .inl (yS Y, 10000, .inl Z32))] H := hP
  have hD : va_D A [(a, .inr (2, [.null, .ref x0, .ref x1, .ref x2, .null, .int 0])), (x0, .inl (yS Y, 4096, .inl Z32)), (x1, .inl (yJ Y, 2000, .inr (.inl Z64))), (x2, .inl (yS Y, 10000, .inl Z32))] := hD
  refine lv_aload_n hx hb dX3_init_31 rfl (lv_at hl 0 rfl) ?_
  refine lv_sipush (v := 2000) hx hb dX3_init_32 (by decide) ?_
  refine y_newa (atype := .int) (ty := .int) hx hb (hts _ q71) rfl (by intro C; exact nofun) hK hP hD hS hA 0 rfl (N' := 2000) (a0 := (2000, .inl Z32)) (fun _ => rfl) (by decide) (by decide) (by decide) (Nat.le_of_ble_eq_true rfl) (Nat.le_of_ble_eq_true rfl) dX3_init_35 (fun x3 H hP hD hS => ?_)
  have hP : va_P Y.1 vwCl [(a, .inr (2, [.null, .ref x0, .ref x1, .ref x2, .null, .int 0])), (x0, .inl (yS Y, 4096, .inl Z32)), (x1, .inl (yJ Y, 2000, .inr (.inl Z64))), (x2, .inl (yS Y, 10000, .inl Z32)), (x3, .inl (yI Y, 2000, .inl Z32))] H := hP
  have hD : va_D A [(a, .inr (2, [.null, .ref x0, .ref x1, .ref x2, .null, .int 0])), (x0, .inl (yS Y, 4096, .inl Z32)), (x1, .inl (yJ Y, 2000, .inr (.inl Z64))), (x2, .inl (yS Y, 10000, .inl Z32)), (x3, .inl (yI Y, 2000, .inl Z32))] := hD
  refine va_putF (D := Y.1) (ci := 2) (v := .ref x3) (ty := (.array .int)) (C := RX3) (T := TX3) (N := 6) hx hb hts in_X3 tyX3 tyX3_ok nmX3 hown hK hP hD hS 0 rfl rfl 4 (by decide) (hts _ q85) (fun _ h9 => h9) rfl hin rfl (by decide +kernel) rfl rfl (Nat.le_of_ble_eq_true rfl) dX3_init_37 (fun H locs hP hD hS => ?_)
  have hP : va_P Y.1 vwCl [(a, .inr (2, [.null, .ref x0, .ref x1, .ref x2, .ref x3, .int 0])), (x0, .inl (yS Y, 4096, .inl Z32)), (x1, .inl (yJ Y, 2000, .inr (.inl Z64))), (x2, .inl (yS Y, 10000, .inl Z32)), (x3, .inl (yI Y, 2000, .inl Z32))] H := hP
  have hD : va_D A [(a, .inr (2, [.null, .ref x0, .ref x1, .ref x2, .ref x3, .int 0])), (x0, .inl (yS Y, 4096, .inl Z32)), (x1, .inl (yJ Y, 2000, .inr (.inl Z64))), (x2, .inl (yS Y, 10000, .inl Z32)), (x3, .inl (yI Y, 2000, .inl Z32))] := hD
  refine lv_aload_n hx hb dX3_init_40 rfl (lv_at hl 0 rfl) ?_
  refine lv_aload_n hx hb dX3_init_41 rfl (lv_at hl 1 rfl) ?_
  refine va_putF (D := Y.1) (ci := 2) (v := .ref r1) (ty := (.object "ProducerBook$Rows")) (C := RX3) (T := TX3) (N := 6) hx hb hts in_X3 tyX3 tyX3_ok nmX3 hown hK hP hD hS 0 rfl rfl 0 (by decide) (hts _ q81) (fun _ h9 => h9) rfl hin rfl (by decide +kernel) rfl rfl (Nat.le_of_ble_eq_true rfl) dX3_init_42 (fun H locs hP hD hS => ?_)
  have hP : va_P Y.1 vwCl [(a, .inr (2, [.ref r1, .ref x0, .ref x1, .ref x2, .ref x3, .int 0])), (x0, .inl (yS Y, 4096, .inl Z32)), (x1, .inl (yJ Y, 2000, .inr (.inl Z64))), (x2, .inl (yS Y, 10000, .inl Z32)), (x3, .inl (yI Y, 2000, .inl Z32))] H := hP
  have hD : va_D A [(a, .inr (2, [.ref r1, .ref x0, .ref x1, .ref x2, .ref x3, .int 0])), (x0, .inl (yS Y, 4096, .inl Z32)), (x1, .inl (yJ Y, 2000, .inr (.inl Z64))), (x2, .inl (yS Y, 10000, .inl Z32)), (x3, .inl (yI Y, 2000, .inl Z32))] := hD
  subst hAe
  refine W.widen (k := 4) (n := 18096) (by decide) (by decide) ?_
  exact xvret hx hb hr hlk hS dX3_init_45 ⟨rfl, x0, x1, x2, x3, hD, hP⟩
set_option maxHeartbeats 4000000 in
theorem mX4_init (l : Launch) (Y : YT) (a sz : Nat) : XMet l yX4_init (ws_ yX4_init cX4_init 1 none) ({ frames := 1, cells := 5, slots := 10000, locals := 30 }) (iPre Y (a, .inr (3, [.int 0, .int 0, .int 0, .null, .null, .null, .null, .null])) sz [.ref a]) (xQ (pV (fun H => ∃ x0 x1 x2 x3 x4 : Nat, va_D (va_A [(a, .inr (3, [.int 0, .int 0, .int 0, .null, .null, .null, .null, .null]))] sz) [(a, .inr (3, [.int 0, .int 0, .int 0, .ref x0, .ref x1, .ref x2, .ref x3, .ref x4])), (x0, .inl (yI Y, 2000, .inl Z32)), (x1, .inl (yJ Y, 2000, .inr (.inl Z64))), (x2, .inl (yI Y, 2000, .inl Z32)), (x3, .inl (yI Y, 2000, .inl Z32)), (x4, .inl (yI Y, 2000, .inl Z32))] ∧ va_P Y.1 vwCl [(a, .inr (3, [.int 0, .int 0, .int 0, .ref x0, .ref x1, .ref x2, .ref x3, .ref x4])), (x0, .inl (yI Y, 2000, .inl Z32)), (x1, .inl (yJ Y, 2000, .inr (.inl Z64))), (x2, .inl (yI Y, 2000, .inl Z32)), (x3, .inl (yI Y, 2000, .inl Z32)), (x4, .inl (yI Y, 2000, .inl Z32))] H)) (va_A [(a, .inr (3, [.int 0, .int 0, .int 0, .null, .null, .null, .null, .null]))] sz)) 5 10000 (va_A [(a, .inr (3, [.int 0, .int 0, .int 0, .null, .null, .null, .null, .null]))] sz) := by
  refine XMet.ofW (cc := cX4_init) (maxL := 1) (ret := none) (by decide) rfl ?_
  intro p e s m args below meth c s₁ B hml hno hv
  obtain ⟨rfl, hsz, hP, hYK⟩ := hv
  have hx := B.exec
  have hb := B.bytes
  have hr := B.returns
  have hlk := B.notSynchronized
  have hts := atoms_spec (ws := ws_ yX4_init cX4_init 1 none) B.pre
  have hts : ∀ w ∈ lw_all, w.before _ s = true := fun w h => hts w (List.mem_cons_of_mem _ h)
  have hown : s.vm.findClass RX4 = some m.cls := findClass_of_methodNamed B.named
  have hin : meth.name = "<init>" := (name_of_methodNamed B.named B.method).1
  subst hsz
  have hK := hYK.1
  have hD : va_D (va_A [(a, .inr (3, [.int 0, .int 0, .int 0, .null, .null, .null, .null, .null]))] s.heap.size) [(a, .inr (3, [.int 0, .int 0, .int 0, .null, .null, .null, .null, .null]))] := one_D
  generalize hAe : va_A [(a, .inr (3, [.int 0, .int 0, .int 0, .null, .null, .null, .null, .null]))] s.heap.size = A at hD ⊢
  have hA : ∀ q : Nat, s.heap.size ≤ q → A q := fun q h => by rw [← hAe]; exact Or.inr h
  have hS : va_S A s.heap s.heap [] := va_S.rf
  have hl := lv_entry [.ref a] (n := 1) (Nat.le_of_ble_eq_true rfl)
  rw [lg_entry_eq]
  generalize (lg_sl [.ref a] ++ List.replicate (1 - (lg_sl [.ref a]).length) Slot.unset).toArray = ls at hl ⊢
  have hl : lv_has ls 1 [(0, .ref a)] := hl
  refine lv_aload_n hx hb dX4_init_0 rfl (lv_at hl 0 rfl) ?_
  refine W.objInit hx hb hown (hts _ q305) (hts _ q27) (hts _ q28) rfl (by rw [hml]; exact hl.1) rfl dX4_init_1 (Nat.le_of_ble_eq_true rfl) (Nat.le_of_ble_eq_true rfl) ?_
  refine W.eq (g2 := F0 m 4 ls []) rfl ?_
  refine lv_aload_n hx hb dX4_init_4 rfl (lv_at hl 0 rfl) ?_
  refine lv_sipush (v := 2000) hx hb dX4_init_5 (by decide) ?_
  refine y_newa (atype := .int) (ty := .int) hx hb (hts _ q71) rfl (by intro C; exact nofun) hK hP hD hS hA 0 rfl (N' := 2000) (a0 := (2000, .inl Z32)) (fun _ => rfl) (by decide) (by decide) (by decide) (Nat.le_of_ble_eq_true rfl) (Nat.le_of_ble_eq_true rfl) dX4_init_8 (fun x0 H hP hD hS => ?_)
  have hP : va_P Y.1 vwCl [(a, .inr (3, [.int 0, .int 0, .int 0, .null, .null, .null, .null, .null])), (x0, .inl (yI Y, 2000, .inl Z32))] H := hP
  have hD : va_D A [(a, .inr (3, [.int 0, .int 0, .int 0, .null, .null, .null, .null, .null])), (x0, .inl (yI Y, 2000, .inl Z32))] := hD
  refine va_putF (D := Y.1) (ci := 3) (v := .ref x0) (ty := (.array .int)) (C := RX4) (T := TX4) (N := 8) hx hb hts in_X4 tyX4 tyX4_ok nmX4 hown hK hP hD hS 0 rfl rfl 3 (by decide) (hts _ q309) (fun _ h9 => h9) rfl hin rfl (by decide +kernel) rfl rfl (Nat.le_of_ble_eq_true rfl) dX4_init_10 (fun H locs hP hD hS => ?_)
  have hP : va_P Y.1 vwCl [(a, .inr (3, [.int 0, .int 0, .int 0, .ref x0, .null, .null, .null, .null])), (x0, .inl (yI Y, 2000, .inl Z32))] H := hP
  have hD : va_D A [(a, .inr (3, [.int 0, .int 0, .int 0, .ref x0, .null, .null, .null, .null])), (x0, .inl (yI Y, 2000, .inl Z32))] := hD
  refine lv_aload_n hx hb dX4_init_13 rfl (lv_at hl 0 rfl) ?_
  refine lv_sipush (v := 2000) hx hb dX4_init_14 (by decide) ?_
  refine y_newa (atype := .long) (ty := .long) hx hb (hts _ q72) rfl (by intro C; exact nofun) hK hP hD hS hA 1 rfl (N' := 2000) (a0 := (2000, .inr (.inl Z64))) (fun _ => rfl) (by decide) (by decide) (by decide) (Nat.le_of_ble_eq_true rfl) (Nat.le_of_ble_eq_true rfl) dX4_init_17 (fun x1 H hP hD hS => ?_)
  have hP : va_P Y.1 vwCl [(a, .inr (3, [.int 0, .int 0, .int 0, .ref x0, .null, .null, .null, .null])), (x0, .inl (yI Y, 2000, .inl Z32)), (x1, .inl (yJ Y, 2000, .inr (.inl Z64)))] H := hP
  have hD : va_D A [(a, .inr (3, [.int 0, .int 0, .int 0, .ref x0, .null, .null, .null, .null])), (x0, .inl (yI Y, 2000, .inl Z32)), (x1, .inl (yJ Y, 2000, .inr (.inl Z64)))] := hD
  refine va_putF (D := Y.1) (ci := 3) (v := .ref x1) (ty := (.array .long)) (C := RX4) (T := TX4) (N := 8) hx hb hts in_X4 tyX4 tyX4_ok nmX4 hown hK hP hD hS 0 rfl rfl 4 (by decide) (hts _ q310) (fun _ h9 => h9) rfl hin rfl (by decide +kernel) rfl rfl (Nat.le_of_ble_eq_true rfl) dX4_init_19 (fun H locs hP hD hS => ?_)
  have hP : va_P Y.1 vwCl [(a, .inr (3, [.int 0, .int 0, .int 0, .ref x0, .ref x1, .null, .null, .null])), (x0, .inl (yI Y, 2000, .inl Z32)), (x1, .inl (yJ Y, 2000, .inr (.inl Z64)))] H := hP
  have hD : va_D A [(a, .inr (3, [.int 0, .int 0, .int 0, .ref x0, .ref x1, .null, .null, .null])), (x0, .inl (yI Y, 2000, .inl Z32)), (x1, .inl (yJ Y, 2000, .inr (.inl Z64)))] := hD
  refine lv_aload_n hx hb dX4_init_22 rfl (lv_at hl 0 rfl) ?_
  refine lv_sipush (v := 2000) hx hb dX4_init_23 (by decide) ?_
  refine y_newa (atype := .int) (ty := .int) hx hb (hts _ q71) rfl (by intro C; exact nofun) hK hP hD hS hA 0 rfl (N' := 2000) (a0 := (2000, .inl Z32)) (fun _ => rfl) (by decide) (by decide) (by decide) (Nat.le_of_ble_eq_true rfl) (Nat.le_of_ble_eq_true rfl) dX4_init_26 (fun x2 H hP hD hS => ?_)
  have hP : va_P Y.1 vwCl [(a, .inr (3, [.int 0, .int 0, .int 0, .ref x0, .ref x1, .null, .null, .null])), (x0, .inl (yI Y, 2000, .inl Z32)), (x1, .inl (yJ Y, 2000, .inr (.inl Z64))), (x2, .inl (yI Y, 2000, .inl Z32))] H := hP
  have hD : va_D A [(a, .inr (3, [.int 0, .int 0, .int 0, .ref x0, .ref x1, .null, .null, .null])), (x0, .inl (yI Y, 2000, .inl Z32)), (x1, .inl (yJ Y, 2000, .inr (.inl Z64))), (x2, .inl (yI Y, 2000, .inl Z32))] := hD
  refine va_putF (D := Y.1) (ci := 3) (v := .ref x2) (ty := (.array .int)) (C := RX4) (T := TX4) (N := 8) hx hb hts in_X4 tyX4 tyX4_ok nmX4 hown hK hP hD hS 0 rfl rfl 5 (by decide) (hts _ q311) (fun _ h9 => h9) rfl hin rfl (by decide +kernel) rfl rfl (Nat.le_of_ble_eq_true rfl) dX4_init_28 (fun H locs hP hD hS => ?_)
  have hP : va_P Y.1 vwCl [(a, .inr (3, [.int 0, .int 0, .int 0, .ref x0, .ref x1, .ref x2, .null, .null])), (x0, .inl (yI Y, 2000, .inl Z32)), (x1, .inl (yJ Y, 2000, .inr (.inl Z64))), (x2, .inl (yI Y, 2000, .inl Z32))] H := hP
  have hD : va_D A [(a, .inr (3, [.int 0, .int 0, .int 0, .ref x0, .ref x1, .ref x2, .null, .null])), (x0, .inl (yI Y, 2000, .inl Z32)), (x1, .inl (yJ Y, 2000, .inr (.inl Z64))), (x2, .inl (yI Y, 2000, .inl Z32))] := hD
  refine lv_aload_n hx hb dX4_init_31 rfl (lv_at hl 0 rfl) ?_
  refine lv_sipush (v := 2000) hx hb dX4_init_32 (by decide) ?_
  refine y_newa (atype := .int) (ty := .int) hx hb (hts _ q71) rfl (by intro C; exact nofun) hK hP hD hS hA 0 rfl (N' := 2000) (a0 := (2000, .inl Z32)) (fun _ => rfl) (by decide) (by decide) (by decide) (Nat.le_of_ble_eq_true rfl) (Nat.le_of_ble_eq_true rfl) dX4_init_35 (fun x3 H hP hD hS => ?_)
  have hP : va_P Y.1 vwCl [(a, .inr (3, [.int 0, .int 0, .int 0, .ref x0, .ref x1, .ref x2, .null, .null])), (x0, .inl (yI Y, 2000, .inl Z32)), (x1, .inl (yJ Y, 2000, .inr (.inl Z64))), (x2, .inl (yI Y, 2000, .inl Z32)), (x3, .inl (yI Y, 2000, .inl Z32))] H := hP
  have hD : va_D A [(a, .inr (3, [.int 0, .int 0, .int 0, .ref x0, .ref x1, .ref x2, .null, .null])), (x0, .inl (yI Y, 2000, .inl Z32)), (x1, .inl (yJ Y, 2000, .inr (.inl Z64))), (x2, .inl (yI Y, 2000, .inl Z32)), (x3, .inl (yI Y, 2000, .inl Z32))] := hD
  refine va_putF (D := Y.1) (ci := 3) (v := .ref x3) (ty := (.array .int)) (C := RX4) (T := TX4) (N := 8) hx hb hts in_X4 tyX4 tyX4_ok nmX4 hown hK hP hD hS 0 rfl rfl 6 (by decide) (hts _ q312) (fun _ h9 => h9) rfl hin rfl (by decide +kernel) rfl rfl (Nat.le_of_ble_eq_true rfl) dX4_init_37 (fun H locs hP hD hS => ?_)
  have hP : va_P Y.1 vwCl [(a, .inr (3, [.int 0, .int 0, .int 0, .ref x0, .ref x1, .ref x2, .ref x3, .null])), (x0, .inl (yI Y, 2000, .inl Z32)), (x1, .inl (yJ Y, 2000, .inr (.inl Z64))), (x2, .inl (yI Y, 2000, .inl Z32)), (x3, .inl (yI Y, 2000, .inl Z32))] H := hP
  have hD : va_D A [(a, .inr (3, [.int 0, .int 0, .int 0, .ref x0, .ref x1, .ref x2, .ref x3, .null])), (x0, .inl (yI Y, 2000, .inl Z32)), (x1, .inl (yJ Y, 2000, .inr (.inl Z64))), (x2, .inl (yI Y, 2000, .inl Z32)), (x3, .inl (yI Y, 2000, .inl Z32))] := hD
  refine lv_aload_n hx hb dX4_init_40 rfl (lv_at hl 0 rfl) ?_
  refine lv_sipush (v := 2000) hx hb dX4_init_41 (by decide) ?_
  refine y_newa (atype := .int) (ty := .int) hx hb (hts _ q71) rfl (by intro C; exact nofun) hK hP hD hS hA 0 rfl (N' := 2000) (a0 := (2000, .inl Z32)) (fun _ => rfl) (by decide) (by decide) (by decide) (Nat.le_of_ble_eq_true rfl) (Nat.le_of_ble_eq_true rfl) dX4_init_44 (fun x4 H hP hD hS => ?_)
  have hP : va_P Y.1 vwCl [(a, .inr (3, [.int 0, .int 0, .int 0, .ref x0, .ref x1, .ref x2, .ref x3, .null])), (x0, .inl (yI Y, 2000, .inl Z32)), (x1, .inl (yJ Y, 2000, .inr (.inl Z64))), (x2, .inl (yI Y, 2000, .inl Z32)), (x3, .inl (yI Y, 2000, .inl Z32)), (x4, .inl (yI Y, 2000, .inl Z32))] H := hP
  have hD : va_D A [(a, .inr (3, [.int 0, .int 0, .int 0, .ref x0, .ref x1, .ref x2, .ref x3, .null])), (x0, .inl (yI Y, 2000, .inl Z32)), (x1, .inl (yJ Y, 2000, .inr (.inl Z64))), (x2, .inl (yI Y, 2000, .inl Z32)), (x3, .inl (yI Y, 2000, .inl Z32)), (x4, .inl (yI Y, 2000, .inl Z32))] := hD
  refine va_putF (D := Y.1) (ci := 3) (v := .ref x4) (ty := (.array .int)) (C := RX4) (T := TX4) (N := 8) hx hb hts in_X4 tyX4 tyX4_ok nmX4 hown hK hP hD hS 0 rfl rfl 7 (by decide) (hts _ q313) (fun _ h9 => h9) rfl hin rfl (by decide +kernel) rfl rfl (Nat.le_of_ble_eq_true rfl) dX4_init_46 (fun H locs hP hD hS => ?_)
  have hP : va_P Y.1 vwCl [(a, .inr (3, [.int 0, .int 0, .int 0, .ref x0, .ref x1, .ref x2, .ref x3, .ref x4])), (x0, .inl (yI Y, 2000, .inl Z32)), (x1, .inl (yJ Y, 2000, .inr (.inl Z64))), (x2, .inl (yI Y, 2000, .inl Z32)), (x3, .inl (yI Y, 2000, .inl Z32)), (x4, .inl (yI Y, 2000, .inl Z32))] H := hP
  have hD : va_D A [(a, .inr (3, [.int 0, .int 0, .int 0, .ref x0, .ref x1, .ref x2, .ref x3, .ref x4])), (x0, .inl (yI Y, 2000, .inl Z32)), (x1, .inl (yJ Y, 2000, .inr (.inl Z64))), (x2, .inl (yI Y, 2000, .inl Z32)), (x3, .inl (yI Y, 2000, .inl Z32)), (x4, .inl (yI Y, 2000, .inl Z32))] := hD
  subst hAe
  refine W.widen (k := 5) (n := 10000) (by decide) (by decide) ?_
  exact xvret hx hb hr hlk hS dX4_init_49 ⟨rfl, x0, x1, x2, x3, x4, hD, hP⟩
end
section
/-! THE BOOK's CONSTRUCTOR -/
set_option maxRecDepth 100000
abbrev xB (a : Nat) : Nat × va_E := (a, .inr (0, [.null, .null]))
set_option maxHeartbeats 4000000 in
theorem mX1_init (l : Launch) (Y : YT) (a sz : Nat) : XMet l yX1_init (ws_ yX1_init cX1_init 1 none) ({ frames := 2, cells := 12, slots := 30110, locals := 60 }) (iPreN Y (xB a) sz [.ref a]) (xQ (pV (fun H => ∃ h : Nat → Nat, h 0 = a ∧ aD 13 h ∧ (∀ i, 1 ≤ i → i < 13 → sz ≤ h i) ∧ bH Y h lg0 pg0 H)) (va_A [xB a] sz)) 12 30110 (va_A [xB a] sz) := by
  refine XMet.ofW (cc := cX1_init) (maxL := 1) (ret := none) (by decide) rfl ?_
  intro p e s m args below meth c s₁ B hml hno hv
  obtain ⟨rfl, hsz, hP, hYK, hNw⟩ := hv
  have hx := B.exec
  have hb := B.bytes
  have hr := B.returns
  have hlk := B.notSynchronized
  have hts := atoms_spec (ws := ws_ yX1_init cX1_init 1 none) B.pre
  have hts : ∀ w ∈ lw_all, w.before _ s = true := fun w h => hts w (List.mem_cons_of_mem _ h)
  have hown : s.vm.findClass RX1 = some m.cls := findClass_of_methodNamed B.named
  have hin : meth.name = "<init>" := (name_of_methodNamed B.named B.method).1
  subst hsz
  have hK := hYK.1
  have hD : va_D (va_A [xB a] s.heap.size) [xB a] := one_D
  generalize hAe : va_A [xB a] s.heap.size = A at hD ⊢
  have hA : ∀ q : Nat, s.heap.size ≤ q → A q := fun q h => by rw [← hAe]; exact Or.inr h
  have hS : va_S A s.heap s.heap [] := va_S.rf
  have hl := lv_entry [.ref a] (n := 1) (Nat.le_of_ble_eq_true rfl)
  rw [lg_entry_eq]
  generalize (lg_sl [.ref a] ++ List.replicate (1 - (lg_sl [.ref a]).length) Slot.unset).toArray = ls at hl ⊢
  have hl : lv_has ls 1 [(0, .ref a)] := hl
  refine lv_aload_n hx hb dX1_init_0 rfl (lv_at hl 0 rfl) ?_
  refine W.objInit hx hb hown (hts _ q26) (hts _ q27) (hts _ q28) rfl (by rw [hml]; exact hl.1) rfl dX1_init_1 (Nat.le_of_ble_eq_true rfl) (Nat.le_of_ble_eq_true rfl) ?_
  refine W.eq (g2 := F0 m 4 ls []) rfl ?_
  refine lv_aload_n hx hb dX1_init_4 rfl (lv_at hl 0 rfl) ?_
  refine va_new (ci := 1) (fs := [.null, .null, .null, .null, .null, .null, .int 0, .int 0]) (C := RX2) (T := TX2) (N := 8) hx hb hts in_X2 tyX2 tyX2_ok hown (hts _ q29) (hts _ q30) (hts _ q12) hK hP hD hS hA rfl (fun j hj => by rcases (show j = 0 ∨ j = 1 ∨ j = 2 ∨ j = 3 ∨ j = 4 ∨ j = 5 ∨ j = 6 ∨ j = 7 by omega) with rfl | rfl | rfl | rfl | rfl | rfl | rfl | rfl <;> rfl) (Nat.le_of_ble_eq_true rfl) (Nat.le_of_ble_eq_true rfl) dX1_init_5 (fun r1 H hP hD hS => ?_)
  have hP : va_P Y.1 vwCl [xB a, (r1, .inr (1, [.null, .null, .null, .null, .null, .null, .int 0, .int 0]))] H := hP
  have hD : va_D A [xB a, (r1, .inr (1, [.null, .null, .null, .null, .null, .null, .int 0, .int 0]))] := hD
  refine lv_dup hx hb dX1_init_8 rfl ?_
  have hPc := hP.sub (ws' := [(r1, .inr (1, [.null, .null, .null, .null, .null, .null, .int 0, .int 0]))]) [1] rfl
  have hFc := va_free (wc := [(r1, .inr (1, [.null, .null, .null, .null, .null, .null, .int 0, .int 0]))]) hD hS hA [1] rfl
  refine xgoV (xrunIN (host := "ProducerBook") (As := []) (rest := [.ref r1, .ref a]) ⟨hx, hb, hml, hown, hts⟩ (mX2_init l Y r1 H.size) ⟨va_cnB 0 hts (lw_meth q33) rfl rfl rfl hNw (hts _ q12) (by decide +kernel) ⟨Nat.le_of_ble_eq_true rfl, Nat.le_of_ble_eq_true rfl⟩, rfl, hts _ q32⟩ ⟨iPre_bl, fun U hU hW => ⟨rfl, by rw [hU], by rw [hU]; exact hPc, hYK.moved hW.alike⟩⟩ rfl rfl hl.1 rfl (lv_room (Nat.le_of_ble_eq_true rfl)) dX1_init_9 ⟨Nat.le_of_ble_eq_true rfl, Nat.le_of_ble_eq_true rfl⟩) hS (fun q _ h => hFc q h) hFc (fun H1 locs hp hz hk hS => ?_)
  obtain ⟨r3, r4, r5, r6, r7, r8, hD1, hP1⟩ := hp
  obtain ⟨hP, hD⟩ := va_join (wr := [xB a]) hP hD [1] [0] rfl rfl (by decide) (by decide) hk hFc hP1 hD1
  generalize H1 = H at hP hS ⊢
  refine va_putF (D := Y.1) (ci := 0) (v := .ref r1) (ty := .object "ProducerBook$Rows") (C := RX1) (T := TX1) (N := 2) hx hb hts in_X1 tyX1 tyX1_ok nmX1 hown hK hP hD hS 0 rfl rfl 0 (by decide) (hts _ q101) (fun _ h9 => h9) rfl hin rfl (by decide +kernel) rfl rfl (Nat.le_of_ble_eq_true rfl) dX1_init_12 (fun H locs hP hD hS => ?_)
  refine lv_aload_n hx hb dX1_init_15 rfl (lv_at hl 0 rfl) ?_
  refine va_new (ci := 2) (fs := [.null, .null, .null, .null, .null, .int 0]) (C := RX3) (T := TX3) (N := 6) hx hb hts in_X3 tyX3 tyX3_ok hown (hts _ q75) (hts _ q76) (hts _ q13) hK hP hD hS hA rfl (fun j hj => by rcases (show j = 0 ∨ j = 1 ∨ j = 2 ∨ j = 3 ∨ j = 4 ∨ j = 5 by omega) with rfl | rfl | rfl | rfl | rfl | rfl <;> rfl) (Nat.le_of_ble_eq_true rfl) (Nat.le_of_ble_eq_true rfl) dX1_init_16 (fun r2 H hP hD hS => ?_)
  refine lv_dup hx hb dX1_init_19 rfl ?_
  refine lv_aload_n hx hb dX1_init_20 rfl (lv_at hl 0 rfl) ?_
  refine va_get (D := Y.1) (ci := 0) (v := .ref r1) (C := RX1) (T := TX1) (N := 2) hx hb hts in_X1 hown hK hP 0 rfl rfl 0 (by decide) (hts _ q101) (fun _ h9 => h9) rfl dX1_init_21 ?_
  have hPc := hP.sub (ws' := [(r2, .inr (2, [.null, .null, .null, .null, .null, .int 0]))]) [8] rfl
  have hFc := va_free (wc := [(r2, .inr (2, [.null, .null, .null, .null, .null, .int 0]))]) hD hS hA [8] rfl
  refine xgoV (xrunI (As := [.ref r1]) (rest := [.ref r2, .ref a]) ⟨hx, hb, hml, hown, hts⟩ (mX3_init l Y r2 r1 H.size) (cwI 1 hts (lw_meth q79) rfl rfl rfl (hts _ q13) (hts _ q77) (hts _ q78) rfl (by decide +kernel) ⟨Nat.le_of_ble_eq_true rfl, Nat.le_of_ble_eq_true rfl⟩) ⟨iPre_bl, fun U hU hW => ⟨rfl, by rw [hU], by rw [hU]; exact hPc, hYK.moved hW.alike⟩⟩ rfl rfl hl.1 rfl (lv_room (Nat.le_of_ble_eq_true rfl)) dX1_init_24 ⟨Nat.le_of_ble_eq_true rfl, Nat.le_of_ble_eq_true rfl⟩) hS (fun q _ h => hFc q h) hFc (fun H1 locs hp hz hk hS => ?_)
  obtain ⟨r9, r10, r11, r12, hD1, hP1⟩ := hp
  obtain ⟨hP, hD⟩ := va_join (wr := [(a, .inr (0, [.ref r1, .null])), (r1, .inr (1, [.ref r3, .ref r4, .ref r5, .ref r6, .ref r7, .ref r8, .int 0, .int 0])), (r3, .inl (yI Y, 2000, .inl Z32)), (r4, .inl (yJ Y, 2000, .inr (.inl Z64))), (r5, .inl (yS Y, 2000, .inl Z32)), (r6, .inl (yI Y, 2000, .inl Z32)), (r7, .inl (yS Y, 2000, .inl Z32)), (r8, .inl (yZ Y, 2000, .inl Z32))]) hP hD [8] [0, 1, 2, 3, 4, 5, 6, 7] rfl rfl (by decide) (by decide) hk hFc hP1 hD1
  generalize H1 = H at hP hS ⊢
  refine va_putF (D := Y.1) (ci := 0) (v := .ref r2) (ty := .object "ProducerBook$Pages") (C := RX1) (T := TX1) (N := 2) hx hb hts in_X1 tyX1 tyX1_ok nmX1 hown hK hP hD hS 0 rfl rfl 1 (by decide) (hts _ q102) (fun _ h9 => h9) rfl hin rfl (by decide +kernel) rfl rfl (Nat.le_of_ble_eq_true rfl) dX1_init_27 (fun H locs hP hD hS => ?_)
  subst hAe
  refine W.widen (k := 12) (n := 30110) (by decide) (by decide) ?_
  have hD2 : va_D (va_A [xB a] s.heap.size) (bk Y (fun i => [a, r1, r2, r3, r4, r5, r6, r7, r8, r9, r10, r11, r12].getD i 0) lg0 pg0) := hD.sub [0, 1, 8, 2, 3, 4, 5, 6, 7, 9, 10, 11, 12] (by decide) rfl
  have hP2 : va_P Y.1 vwCl (bk Y (fun i => [a, r1, r2, r3, r4, r5, r6, r7, r8, r9, r10, r11, r12].getD i 0) lg0 pg0) H := hP.sub [0, 1, 8, 2, 3, 4, 5, 6, 7, 9, 10, 11, 12] rfl
  refine xvret hx hb hr hlk hS dX1_init_30 ⟨rfl, _, rfl, aD_of hD2 rfl, fun i h1 h2 => ?_, hP2⟩
  obtain ⟨x, hx9⟩ : ∃ x, (bk Y (fun i => [a, r1, r2, r3, r4, r5, r6, r7, r8, r9, r10, r11, r12].getD i 0) lg0 pg0)[i]? = some x := ⟨_, List.getElem?_eq_getElem (by show i < 13; exact h2)⟩
  rw [← (at_of (N := 13) (h := fun i => [a, r1, r2, r3, r4, r5, r6, r7, r8, r9, r10, r11, r12].getD i 0) rfl hx9).2]
  obtain ⟨k, rfl⟩ : ∃ k, i = k + 1 := ⟨i - 1, by omega⟩
  exact new_of hD2 rfl (k := k) hx9
end
section
/-! THE LAW's METHODS WITH HANDLERS (written by prog/wrap.py) -/
set_option maxRecDepth 100000
abbrev ou (Y : YT) (a : Nat) (v : Nat → Int64) : va_W := [(a, .inl (yJ Y, 1, .inr (.inl v)))]
def wk (Y : YT) (h : Nat → Nat) (L : Lg) (P : Pg) (v : Nat → Int64) : va_W := bk Y h L P ++ ou Y (h 13) v
abbrev wH (Y : YT) (h : Nat → Nat) (L : Lg) (P : Pg) (v : Nat → Int64) (H : Heap) : Prop := va_P Y.1 vwCl (wk Y h L P v) H
theorem wk_D {Y : YT} {h : Nat → Nat} {L : Lg} {P : Pg} {v : Nat → Int64} {sz : Nat} (hh : aD 14 h) : va_D (aA 14 h sz) (wk Y h L P v) := D_of rfl hh
theorem aD.le {N M : Nat} {h : Nat → Nat} (H : aD N h) (hm : M ≤ N) : aD M h := fun i j hi hj e => H i j (Nat.lt_of_lt_of_le hi hm) (Nat.lt_of_lt_of_le hj hm) e
theorem wH_b {Y : YT} {h : Nat → Nat} {L : Lg} {P : Pg} {v : Nat → Int64} {H : Heap} (hP : wH Y h L P v H) : bH Y h L P H := hP.sub [0, 1, 2, 3, 4, 5, 6, 7, 8, 9, 10, 11, 12] rfl
theorem wH_o {Y : YT} {h : Nat → Nat} {L : Lg} {P : Pg} {v : Nat → Int64} {H : Heap} (hP : wH Y h L P v H) : va_P Y.1 vwCl (ou Y (h 13) v) H := hP.sub [13] rfl
theorem aA_up {N M : Nat} {h : Nat → Nat} {sz sz' : Nat} (hm : M ≤ N) (hs : sz ≤ sz') {q : Nat} (H : aA M h sz' q) : aA N h sz q := by
  rcases H with ⟨i, h1, h2⟩ | H
  · exact Or.inl ⟨i, Nat.lt_of_lt_of_le h1 hm, h2⟩
  · exact Or.inr (Nat.le_trans hs H)
/-- the out cell stays where the book alone is touched -/
theorem wH_j {Y : YT} {h : Nat → Nat} {L L2 : Lg} {P P2 : Pg} {v : Nat → Int64} {H H1 : Heap} (hh : aD 14 h) (hP : wH Y h L P v H) (hk : ∀ q : Nat, q < H.size → ¬ aA 13 h H.size q → H1[q]? = H[q]?) (hB : bH Y h L2 P2 H1) : wH Y h L2 P2 v H1 := by
  refine va_P.app hB (P_off (wH_o hP) hk (fun k q hq => ?_))
  have e : q.1 = h 13 := by
    cases k with
    | zero => cases hq; rfl
    | succ k => cases hq
  have hl := (wH_o hP 0 _ rfl).lt
  rw [e]
  rintro (⟨i, h1, h2⟩ | h1)
  · have := hh 13 i (by decide) (by omega) h2
    omega
  · have : h 13 < H.size := hl
    omega
def wPre (Y : YT) (h : Nat → Nat) (L : Lg) (P : Pg) (v : Nat → Int64) (sz : Nat) (av : List Value) : Array Value → State → Prop := va_Pc av (fun U => U.heap.size = sz ∧ wH Y h L P v U.heap ∧ YK Y U ∧ exOK U)
theorem wPre_bl {Y : YT} {h : Nat → Nat} {L : Lg} {P : Pg} {v : Nat → Int64} {sz : Nat} {av : List Value} : FrameBlind (wPre Y h L P v sz av) := fun a U g mk q => by
  obtain ⟨q0, q1, qP, qK, qx⟩ := q
  exact ⟨q0, q1, qP, YK.moved (u := U) (U := U.calling g mk a) (Vm.Alike.refl U.vm) qK, ex_calling qx⟩
theorem dr_n2 {L : Lg} {n : Int32} : (drR L n).1 ≠ 2 := by unfold drR; split <;> (dsimp only; decide)
theorem kn_n2 {L : Lg} {p : Int64} {w : Int32} : (knR L p w).1 ≠ 2 := by unfold knR; split <;> (dsimp only; decide)
theorem ba_n2 {L : Lg} {k w : Int32} : (baR L k w).1 ≠ 2 := by unfold baR; split <;> (dsimp only; decide)
theorem co_n2 {L : Lg} {w : Int32} : (coR L w).1 ≠ 2 := by unfold coR; split <;> (dsimp only; decide)
/-- what a wrapper leaves -/
abbrev wPost (Y : YT) (h : Nat → Nat) (L2 : Lg) (k : Int32) (r : Int64) : Outcome → Heap → Prop := pI k (fun H => ∃ (P2 : Pg) (v2 : Nat → Int64), PgOK (gP L2) (gN L2) P2 ∧ (k = 0 → v2 0 = r) ∧ wH Y h L2 P2 v2 H)
set_option maxHeartbeats 4000000 in
theorem mX0_offer (l : Launch) (Y : YT) (h : Nat → Nat) (hh : aD 14 h) (sz : Nat) (L : Lg) (P : Pg) (v : Nat → Int64) (hfl : l.flags = flags0) (p1 : Int64) (e1 s1 l1 : Int32) (hlg : LogOK L) (hok : PgOK (gP L) (gN L) P) : XMet l yX0_offer (wsW_ yX0_offer cX0_offer 8 (some .int) [(0, 15, 18, 13), (0, 15, 22, 15)]) ({ frames := 9, cells := 2, slots := 12, locals := 160 }) (wPre Y h L P v sz [.ref (h 0), .long p1, .int e1, .int s1, .int l1, .ref (h 13)]) (xQ (wPost Y h (ofR L p1 e1 s1 l1).2.2 (ofR L p1 e1 s1 l1).1 (ofR L p1 e1 s1 l1).2.1.toInt64) (aA 14 h sz)) 2 12 (aA 14 h sz) := by
  refine XMet.ofWH (cc := cX0_offer) (maxL := 8) (ret := some .int) (hh := [(0, 15, 18, 13), (0, 15, 22, 15)]) (by decide) rfl ?_
  intro p e s m args below meth c s₁ B hml htab hv
  obtain ⟨rfl, hsz, hP, hYK, hex⟩ := hv
  have hx := B.exec
  have hb := B.bytes
  have hr := B.returns
  have hlk := B.notSynchronized
  have hts := atoms_spec (ws := wsW_ yX0_offer cX0_offer 8 (some .int) [(0, 15, 18, 13), (0, 15, 22, 15)]) B.pre
  have hts : ∀ w ∈ lw_all, w.before _ s = true := fun w h => hts w (List.mem_cons_of_mem _ h)
  have hown : s.vm.findClass RX0 = some m.cls := findClass_of_methodNamed B.named
  subst hsz
  have hK := hYK.1
  have hPb := wH_b hP
  have hS : va_S (aA 14 h s.heap.size) s.heap s.heap [] := va_S.rf
  have hl := lv_entry [.ref (h 0), .long p1, .int e1, .int s1, .int l1, .ref (h 13)] (n := 8) (Nat.le_of_ble_eq_true rfl)
  rw [lg_entry_eq]
  generalize (lg_sl [.ref (h 0), .long p1, .int e1, .int s1, .int l1, .ref (h 13)] ++ List.replicate (8 - (lg_sl [.ref (h 0), .long p1, .int e1, .int s1, .int l1, .ref (h 13)]).length) Slot.unset).toArray = ls at hl ⊢
  have hl : lv_has ls 8 [(0, .ref (h 0)), (1, .long p1), (3, .int e1), (4, .int s1), (5, .int l1), (6, .ref (h 13))] := hl
  refine lv_aload hx hb dX0_offer_0 (lv_at hl 5 rfl) ?_
  refine lv_iconst (v := 0) hx hb dX0_offer_2 (by decide) ?_
  refine lv_aload_n hx hb dX0_offer_3 rfl (lv_at hl 0 rfl) ?_
  refine lv_lload_n hx hb dX0_offer_4 rfl (lv_at hl 1 rfl) ?_
  refine lv_iload_n hx hb dX0_offer_5 rfl (lv_at hl 2 rfl) ?_
  refine lv_iload hx hb dX0_offer_6 (lv_at hl 3 rfl) ?_
  refine lv_iload hx hb dX0_offer_8 (lv_at hl 4 rfl) ?_
  refine xgo (xrunV (As := [.long p1, .int e1, .int s1, .int l1]) (rest := [.int 0, .ref (h 13)]) ⟨hx, hb, hml, hown, hts⟩ (mX1_offer l Y h (hh.le (by decide)) s.heap.size L P hfl p1 e1 s1 l1 hlg hok) (cwV 4 hts (lw_V q138 q139 q140 q11 q141) rfl rfl rfl (by decide +kernel) ⟨Nat.le_of_ble_eq_true rfl, Nat.le_of_ble_eq_true rfl⟩) ⟨bPreX_bl, va_recv hK hPb (ci := 0) (q0 := 0) rfl rfl, fun U hU hW => ⟨rfl, by rw [hU], by rw [hU]; exact hPb, hYK.moved hW.alike, hex.moved hW (fun q c h _ => by rw [hU]; exact h)⟩⟩ rfl rfl hl.1 rfl (lv_room (Nat.le_of_ble_eq_true rfl)) dX0_offer_10 ⟨Nat.le_of_ble_eq_true rfl, Nat.le_of_ble_eq_true rfl⟩) hS (fun q _ h => aA_up (by decide) (Nat.le_refl _) h) (fun q h => aA_up (by decide) (Nat.le_refl _) h) (fun vv H locs hv hz hk hS => ?_) (fun x H locs hv hz hk hS => ?_)
  · obtain ⟨hv, P2, hok2, hB⟩ := hv
    have hP := wH_j hh hP hk hB
    rcases hv with ⟨hk0, hv⟩ | ⟨-, a, hv, -⟩ | ⟨-, a, hv, -⟩
    · cases hv
      refine W.eq (g2 := F0 m 13 ls [.int ((ofR L p1 e1 s1 l1).2.1), .int 0, .ref (h 13)]) rfl ?_
      refine lv_i2l (v := (ofR L p1 e1 s1 l1).2.1.toInt64) hx hb dX0_offer_13 rfl ?_
      refine y_last hx hb hK hP (wk_D hh) hS 13 1 v rfl rfl 0 (by decide) (by decide) dX0_offer_14 (fun H locs hP hS => ?_)
      refine lv_goto (tgt := 26) hx hb dX0_offer_15 (by decide) ?_
      refine lv_iconst (v := 0) hx hb dX0_offer_26 (by decide) ?_
      exact xiret hx hb hr hlk hS dX0_offer_27 ⟨by rw [hk0], P2, vp_updL v 0 ((ofR L p1 e1 s1 l1).2.1.toInt64), hok2, fun _ => pk_uLs, hP⟩
    · cases hv
    · cases hv
  · obtain ⟨hv, P2, hok2, hB⟩ := hv
    have hP := wH_j hh hP hk hB
    rcases hv with ⟨-, hv⟩ | ⟨hk1, a, hv, ce, hce, hvm, hcls⟩ | ⟨hk1, a, hv, ce, hce, hvm, hcls⟩
    · cases hv
    · cases hv
      refine wt_catchA (own := RX0) (name := iaeN) htab hown (by decide) (by decide) (hts _ q136) hYK.2.1.1 hce hvm (by rw [hcls]; exact hYK.2.2.1) ?_
      refine W.eq (g2 := F0 m 18 ls [.ref x]) rfl ?_
      refine lv_astore (lv' := [(7, .ref x), (0, .ref (h 0)), (1, .long p1), (3, .int e1), (4, .int s1), (5, .int l1), (6, .ref (h 13))]) hx hb dX0_offer_18 hl (by decide) rfl (fun ls hl => ?_)
      refine lv_iconst (v := 1) hx hb dX0_offer_20 (by decide) ?_
      exact xiret hx hb hr hlk hS dX0_offer_21 ⟨by rw [hk1], P2, v, hok2, fun h0 => absurd (hk1.symm.trans h0) (by decide), hP⟩
    · cases hv
      refine wt_catchB (own := RX0) (name1 := iaeN) (name := iseN) htab hown (by decide) (by decide) (by decide) (by decide) (hts _ q136) hYK.2.1.1 (hts _ q137) hYK.2.1.2 hce hvm (by rw [hcls]; exact hYK.2.2.2.2) (by rw [hcls]; exact hYK.2.2.2.1) ?_
      refine W.eq (g2 := F0 m 22 ls [.ref x]) rfl ?_
      refine lv_astore (lv' := [(7, .ref x), (0, .ref (h 0)), (1, .long p1), (3, .int e1), (4, .int s1), (5, .int l1), (6, .ref (h 13))]) hx hb dX0_offer_22 hl (by decide) rfl (fun ls hl => ?_)
      refine lv_iconst (v := 2) hx hb dX0_offer_24 (by decide) ?_
      exact xiret hx hb hr hlk hS dX0_offer_25 ⟨by rw [hk1], P2, v, hok2, fun h0 => absurd (hk1.symm.trans h0) (by decide), hP⟩
set_option maxHeartbeats 4000000 in
theorem mX0_offers (l : Launch) (Y : YT) (h : Nat → Nat) (hh : aD 14 h) (sz : Nat) (L : Lg) (P : Pg) (v : Nat → Int64) (hfl : l.flags = flags0) (n1 : Int32) (p1 : Int64) (e1 s1 l1 : Int32) (hlg : LogOK L) (hok : PgOK (gP L) (gN L) P) : XMet l yX0_offers (wsW_ yX0_offers cX0_offers 9 (some .int) [(0, 17, 20, 13), (0, 17, 24, 15)]) ({ frames := 9, cells := 2, slots := 12, locals := 160 }) (wPre Y h L P v sz [.ref (h 0), .int n1, .long p1, .int e1, .int s1, .int l1, .ref (h 13)]) (xQ (wPost Y h (osR L n1 p1 e1 s1 l1).2.2 (osR L n1 p1 e1 s1 l1).1 (osR L n1 p1 e1 s1 l1).2.1.toInt64) (aA 14 h sz)) 2 12 (aA 14 h sz) := by
  refine XMet.ofWH (cc := cX0_offers) (maxL := 9) (ret := some .int) (hh := [(0, 17, 20, 13), (0, 17, 24, 15)]) (by decide) rfl ?_
  intro p e s m args below meth c s₁ B hml htab hv
  obtain ⟨rfl, hsz, hP, hYK, hex⟩ := hv
  have hx := B.exec
  have hb := B.bytes
  have hr := B.returns
  have hlk := B.notSynchronized
  have hts := atoms_spec (ws := wsW_ yX0_offers cX0_offers 9 (some .int) [(0, 17, 20, 13), (0, 17, 24, 15)]) B.pre
  have hts : ∀ w ∈ lw_all, w.before _ s = true := fun w h => hts w (List.mem_cons_of_mem _ h)
  have hown : s.vm.findClass RX0 = some m.cls := findClass_of_methodNamed B.named
  subst hsz
  have hK := hYK.1
  have hPb := wH_b hP
  have hS : va_S (aA 14 h s.heap.size) s.heap s.heap [] := va_S.rf
  have hl := lv_entry [.ref (h 0), .int n1, .long p1, .int e1, .int s1, .int l1, .ref (h 13)] (n := 9) (Nat.le_of_ble_eq_true rfl)
  rw [lg_entry_eq]
  generalize (lg_sl [.ref (h 0), .int n1, .long p1, .int e1, .int s1, .int l1, .ref (h 13)] ++ List.replicate (9 - (lg_sl [.ref (h 0), .int n1, .long p1, .int e1, .int s1, .int l1, .ref (h 13)]).length) Slot.unset).toArray = ls at hl ⊢
  have hl : lv_has ls 9 [(0, .ref (h 0)), (1, .int n1), (2, .long p1), (4, .int e1), (5, .int s1), (6, .int l1), (7, .ref (h 13))] := hl
  refine lv_aload hx hb dX0_offers_0 (lv_at hl 6 rfl) ?_
  refine lv_iconst (v := 0) hx hb dX0_offers_2 (by decide) ?_
  refine lv_aload_n hx hb dX0_offers_3 rfl (lv_at hl 0 rfl) ?_
  refine lv_iload_n hx hb dX0_offers_4 rfl (lv_at hl 1 rfl) ?_
  refine lv_lload_n hx hb dX0_offers_5 rfl (lv_at hl 2 rfl) ?_
  refine lv_iload hx hb dX0_offers_6 (lv_at hl 3 rfl) ?_
  refine lv_iload hx hb dX0_offers_8 (lv_at hl 4 rfl) ?_
  refine lv_iload hx hb dX0_offers_10 (lv_at hl 5 rfl) ?_
  refine xgo (xrunV (As := [.int n1, .long p1, .int e1, .int s1, .int l1]) (rest := [.int 0, .ref (h 13)]) ⟨hx, hb, hml, hown, hts⟩ (mX1_offers l Y h (hh.le (by decide)) s.heap.size L P hfl n1 p1 e1 s1 l1 hlg hok) (cwV 5 hts (lw_V q266 q267 q268 q11 q269) rfl rfl rfl (by decide +kernel) ⟨Nat.le_of_ble_eq_true rfl, Nat.le_of_ble_eq_true rfl⟩) ⟨bPreX_bl, va_recv hK hPb (ci := 0) (q0 := 0) rfl rfl, fun U hU hW => ⟨rfl, by rw [hU], by rw [hU]; exact hPb, hYK.moved hW.alike, hex.moved hW (fun q c h _ => by rw [hU]; exact h)⟩⟩ rfl rfl hl.1 rfl (lv_room (Nat.le_of_ble_eq_true rfl)) dX0_offers_12 ⟨Nat.le_of_ble_eq_true rfl, Nat.le_of_ble_eq_true rfl⟩) hS (fun q _ h => aA_up (by decide) (Nat.le_refl _) h) (fun q h => aA_up (by decide) (Nat.le_refl _) h) (fun vv H locs hv hz hk hS => ?_) (fun x H locs hv hz hk hS => ?_)
  · obtain ⟨hv, P2, hok2, hB⟩ := hv
    have hP := wH_j hh hP hk hB
    rcases hv with ⟨hk0, hv⟩ | ⟨-, a, hv, -⟩ | ⟨-, a, hv, -⟩
    · cases hv
      refine W.eq (g2 := F0 m 15 ls [.int ((osR L n1 p1 e1 s1 l1).2.1), .int 0, .ref (h 13)]) rfl ?_
      refine lv_i2l (v := (osR L n1 p1 e1 s1 l1).2.1.toInt64) hx hb dX0_offers_15 rfl ?_
      refine y_last hx hb hK hP (wk_D hh) hS 13 1 v rfl rfl 0 (by decide) (by decide) dX0_offers_16 (fun H locs hP hS => ?_)
      refine lv_goto (tgt := 28) hx hb dX0_offers_17 (by decide) ?_
      refine lv_iconst (v := 0) hx hb dX0_offers_28 (by decide) ?_
      exact xiret hx hb hr hlk hS dX0_offers_29 ⟨by rw [hk0], P2, vp_updL v 0 ((osR L n1 p1 e1 s1 l1).2.1.toInt64), hok2, fun _ => pk_uLs, hP⟩
    · cases hv
    · cases hv
  · obtain ⟨hv, P2, hok2, hB⟩ := hv
    have hP := wH_j hh hP hk hB
    rcases hv with ⟨-, hv⟩ | ⟨hk1, a, hv, ce, hce, hvm, hcls⟩ | ⟨hk1, a, hv, ce, hce, hvm, hcls⟩
    · cases hv
    · cases hv
      refine wt_catchA (own := RX0) (name := iaeN) htab hown (by decide) (by decide) (hts _ q136) hYK.2.1.1 hce hvm (by rw [hcls]; exact hYK.2.2.1) ?_
      refine W.eq (g2 := F0 m 20 ls [.ref x]) rfl ?_
      refine lv_astore (lv' := [(8, .ref x), (0, .ref (h 0)), (1, .int n1), (2, .long p1), (4, .int e1), (5, .int s1), (6, .int l1), (7, .ref (h 13))]) hx hb dX0_offers_20 hl (by decide) rfl (fun ls hl => ?_)
      refine lv_iconst (v := 1) hx hb dX0_offers_22 (by decide) ?_
      exact xiret hx hb hr hlk hS dX0_offers_23 ⟨by rw [hk1], P2, v, hok2, fun h0 => absurd (hk1.symm.trans h0) (by decide), hP⟩
    · cases hv
      refine wt_catchB (own := RX0) (name1 := iaeN) (name := iseN) htab hown (by decide) (by decide) (by decide) (by decide) (hts _ q136) hYK.2.1.1 (hts _ q137) hYK.2.1.2 hce hvm (by rw [hcls]; exact hYK.2.2.2.2) (by rw [hcls]; exact hYK.2.2.2.1) ?_
      refine W.eq (g2 := F0 m 24 ls [.ref x]) rfl ?_
      refine lv_astore (lv' := [(8, .ref x), (0, .ref (h 0)), (1, .int n1), (2, .long p1), (4, .int e1), (5, .int s1), (6, .int l1), (7, .ref (h 13))]) hx hb dX0_offers_24 hl (by decide) rfl (fun ls hl => ?_)
      refine lv_iconst (v := 2) hx hb dX0_offers_26 (by decide) ?_
      exact xiret hx hb hr hlk hS dX0_offers_27 ⟨by rw [hk1], P2, v, hok2, fun h0 => absurd (hk1.symm.trans h0) (by decide), hP⟩
set_option maxHeartbeats 4000000 in
theorem mX0_drop (l : Launch) (Y : YT) (h : Nat → Nat) (hh : aD 14 h) (sz : Nat) (L : Lg) (P : Pg) (v : Nat → Int64) (hfl : l.flags = flags0) (n1 : Int32) (hlg : LogOK L) (hok : PgOK (gP L) (gN L) P) : XMet l yX0_drop (wsW_ yX0_drop cX0_drop 4 (some .int) [(0, 9, 12, 13)]) ({ frames := 8, cells := 1, slots := 6, locals := 130 }) (wPre Y h L P v sz [.ref (h 0), .int n1, .ref (h 13)]) (xQ (wPost Y h (drR L n1).2.2 (drR L n1).1 (drR L n1).2.1.toInt64) (aA 14 h sz)) 1 6 (aA 14 h sz) := by
  refine XMet.ofWH (cc := cX0_drop) (maxL := 4) (ret := some .int) (hh := [(0, 9, 12, 13)]) (by decide) rfl ?_
  intro p e s m args below meth c s₁ B hml htab hv
  obtain ⟨rfl, hsz, hP, hYK, hex⟩ := hv
  have hx := B.exec
  have hb := B.bytes
  have hr := B.returns
  have hlk := B.notSynchronized
  have hts := atoms_spec (ws := wsW_ yX0_drop cX0_drop 4 (some .int) [(0, 9, 12, 13)]) B.pre
  have hts : ∀ w ∈ lw_all, w.before _ s = true := fun w h => hts w (List.mem_cons_of_mem _ h)
  have hown : s.vm.findClass RX0 = some m.cls := findClass_of_methodNamed B.named
  subst hsz
  have hK := hYK.1
  have hPb := wH_b hP
  have hS : va_S (aA 14 h s.heap.size) s.heap s.heap [] := va_S.rf
  have hl := lv_entry [.ref (h 0), .int n1, .ref (h 13)] (n := 4) (Nat.le_of_ble_eq_true rfl)
  rw [lg_entry_eq]
  generalize (lg_sl [.ref (h 0), .int n1, .ref (h 13)] ++ List.replicate (4 - (lg_sl [.ref (h 0), .int n1, .ref (h 13)]).length) Slot.unset).toArray = ls at hl ⊢
  have hl : lv_has ls 4 [(0, .ref (h 0)), (1, .int n1), (2, .ref (h 13))] := hl
  refine lv_aload_n hx hb dX0_drop_0 rfl (lv_at hl 2 rfl) ?_
  refine lv_iconst (v := 0) hx hb dX0_drop_1 (by decide) ?_
  refine lv_aload_n hx hb dX0_drop_2 rfl (lv_at hl 0 rfl) ?_
  refine lv_iload_n hx hb dX0_drop_3 rfl (lv_at hl 1 rfl) ?_
  refine xgo (xrunV (As := [.int n1]) (rest := [.int 0, .ref (h 13)]) ⟨hx, hb, hml, hown, hts⟩ (mX1_drop l Y h (hh.le (by decide)) s.heap.size L P hfl n1 hlg hok) (cwV 1 hts (lw_V q274 q275 q276 q11 q277) rfl rfl rfl (by decide +kernel) ⟨Nat.le_of_ble_eq_true rfl, Nat.le_of_ble_eq_true rfl⟩) ⟨bPreX_bl, va_recv hK hPb (ci := 0) (q0 := 0) rfl rfl, fun U hU hW => ⟨rfl, by rw [hU], by rw [hU]; exact hPb, hYK.moved hW.alike, hex.moved hW (fun q c h _ => by rw [hU]; exact h)⟩⟩ rfl rfl hl.1 rfl (lv_room (Nat.le_of_ble_eq_true rfl)) dX0_drop_4 ⟨Nat.le_of_ble_eq_true rfl, Nat.le_of_ble_eq_true rfl⟩) hS (fun q _ h => aA_up (by decide) (Nat.le_refl _) h) (fun q h => aA_up (by decide) (Nat.le_refl _) h) (fun vv H locs hv hz hk hS => ?_) (fun x H locs hv hz hk hS => ?_)
  · obtain ⟨hv, P2, hok2, hB⟩ := hv
    have hP := wH_j hh hP hk hB
    rcases hv with ⟨hk0, hv⟩ | ⟨-, a, hv, -⟩ | ⟨-, a, hv, -⟩
    · cases hv
      refine W.eq (g2 := F0 m 7 ls [.int ((drR L n1).2.1), .int 0, .ref (h 13)]) rfl ?_
      refine lv_i2l (v := (drR L n1).2.1.toInt64) hx hb dX0_drop_7 rfl ?_
      refine y_last hx hb hK hP (wk_D hh) hS 13 1 v rfl rfl 0 (by decide) (by decide) dX0_drop_8 (fun H locs hP hS => ?_)
      refine lv_goto (tgt := 15) hx hb dX0_drop_9 (by decide) ?_
      refine lv_iconst (v := 0) hx hb dX0_drop_15 (by decide) ?_
      exact xiret hx hb hr hlk hS dX0_drop_16 ⟨by rw [hk0], P2, vp_updL v 0 ((drR L n1).2.1.toInt64), hok2, fun _ => pk_uLs, hP⟩
    · cases hv
    · cases hv
  · obtain ⟨hv, P2, hok2, hB⟩ := hv
    have hP := wH_j hh hP hk hB
    rcases hv with ⟨-, hv⟩ | ⟨hk1, a, hv, ce, hce, hvm, hcls⟩ | ⟨hk1, a, hv, ce, hce, hvm, hcls⟩
    · cases hv
    · cases hv
      refine wt_catchA (own := RX0) (name := iaeN) htab hown (by decide) (by decide) (hts _ q136) hYK.2.1.1 hce hvm (by rw [hcls]; exact hYK.2.2.1) ?_
      refine W.eq (g2 := F0 m 12 ls [.ref x]) rfl ?_
      refine lv_astore_n (lv' := [(3, .ref x), (0, .ref (h 0)), (1, .int n1), (2, .ref (h 13))]) hx hb dX0_drop_12 rfl hl (by decide) rfl (fun ls hl => ?_)
      refine lv_iconst (v := 1) hx hb dX0_drop_13 (by decide) ?_
      exact xiret hx hb hr hlk hS dX0_drop_14 ⟨by rw [hk1], P2, v, hok2, fun h0 => absurd (hk1.symm.trans h0) (by decide), hP⟩
    · exact absurd hk1 dr_n2
set_option maxHeartbeats 4000000 in
theorem mX0_known (l : Launch) (Y : YT) (h : Nat → Nat) (hh : aD 14 h) (sz : Nat) (L : Lg) (P : Pg) (v : Nat → Int64) (hfl : l.flags = flags0) (p1 : Int64) (w1 : Int32) (hlg : LogOK L) (hok : PgOK (gP L) (gN L) P) : XMet l yX0_known (wsW_ yX0_known cX0_known 6 (some .int) [(0, 11, 14, 13)]) ({ frames := 8, cells := 1, slots := 6, locals := 130 }) (wPre Y h L P v sz [.ref (h 0), .long p1, .int w1, .ref (h 13)]) (xQ (wPost Y h L (knR L p1 w1).1 (knR L p1 w1).2.toInt64) (aA 14 h sz)) 1 6 (aA 14 h sz) := by
  refine XMet.ofWH (cc := cX0_known) (maxL := 6) (ret := some .int) (hh := [(0, 11, 14, 13)]) (by decide) rfl ?_
  intro p e s m args below meth c s₁ B hml htab hv
  obtain ⟨rfl, hsz, hP, hYK, hex⟩ := hv
  have hx := B.exec
  have hb := B.bytes
  have hr := B.returns
  have hlk := B.notSynchronized
  have hts := atoms_spec (ws := wsW_ yX0_known cX0_known 6 (some .int) [(0, 11, 14, 13)]) B.pre
  have hts : ∀ w ∈ lw_all, w.before _ s = true := fun w h => hts w (List.mem_cons_of_mem _ h)
  have hown : s.vm.findClass RX0 = some m.cls := findClass_of_methodNamed B.named
  subst hsz
  have hK := hYK.1
  have hPb := wH_b hP
  have hS : va_S (aA 14 h s.heap.size) s.heap s.heap [] := va_S.rf
  have hl := lv_entry [.ref (h 0), .long p1, .int w1, .ref (h 13)] (n := 6) (Nat.le_of_ble_eq_true rfl)
  rw [lg_entry_eq]
  generalize (lg_sl [.ref (h 0), .long p1, .int w1, .ref (h 13)] ++ List.replicate (6 - (lg_sl [.ref (h 0), .long p1, .int w1, .ref (h 13)]).length) Slot.unset).toArray = ls at hl ⊢
  have hl : lv_has ls 6 [(0, .ref (h 0)), (1, .long p1), (3, .int w1), (4, .ref (h 13))] := hl
  refine lv_aload hx hb dX0_known_0 (lv_at hl 3 rfl) ?_
  refine lv_iconst (v := 0) hx hb dX0_known_2 (by decide) ?_
  refine lv_aload_n hx hb dX0_known_3 rfl (lv_at hl 0 rfl) ?_
  refine lv_lload_n hx hb dX0_known_4 rfl (lv_at hl 1 rfl) ?_
  refine lv_iload_n hx hb dX0_known_5 rfl (lv_at hl 2 rfl) ?_
  refine xgo (xrunV (As := [.long p1, .int w1]) (rest := [.int 0, .ref (h 13)]) ⟨hx, hb, hml, hown, hts⟩ (mX1_known l Y h (hh.le (by decide)) s.heap.size L P hfl p1 w1 hlg hok) (cwV 2 hts (lw_V q282 q283 q284 q11 q285) rfl rfl rfl (by decide +kernel) ⟨Nat.le_of_ble_eq_true rfl, Nat.le_of_ble_eq_true rfl⟩) ⟨bPreX_bl, va_recv hK hPb (ci := 0) (q0 := 0) rfl rfl, fun U hU hW => ⟨rfl, by rw [hU], by rw [hU]; exact hPb, hYK.moved hW.alike, hex.moved hW (fun q c h _ => by rw [hU]; exact h)⟩⟩ rfl rfl hl.1 rfl (lv_room (Nat.le_of_ble_eq_true rfl)) dX0_known_6 ⟨Nat.le_of_ble_eq_true rfl, Nat.le_of_ble_eq_true rfl⟩) hS (fun q _ h => aA_up (by decide) (Nat.le_refl _) h) (fun q h => aA_up (by decide) (Nat.le_refl _) h) (fun vv H locs hv hz hk hS => ?_) (fun x H locs hv hz hk hS => ?_)
  · obtain ⟨hv, hB⟩ := hv
    have hP := wH_j hh hP hk hB
    rcases hv with ⟨hk0, hv⟩ | ⟨-, a, hv, -⟩ | ⟨-, a, hv, -⟩
    · cases hv
      refine W.eq (g2 := F0 m 9 ls [.int ((knR L p1 w1).2), .int 0, .ref (h 13)]) rfl ?_
      refine lv_i2l (v := (knR L p1 w1).2.toInt64) hx hb dX0_known_9 rfl ?_
      refine y_last hx hb hK hP (wk_D hh) hS 13 1 v rfl rfl 0 (by decide) (by decide) dX0_known_10 (fun H locs hP hS => ?_)
      refine lv_goto (tgt := 18) hx hb dX0_known_11 (by decide) ?_
      refine lv_iconst (v := 0) hx hb dX0_known_18 (by decide) ?_
      exact xiret hx hb hr hlk hS dX0_known_19 ⟨by rw [hk0], P, vp_updL v 0 ((knR L p1 w1).2.toInt64), hok, fun _ => pk_uLs, hP⟩
    · cases hv
    · cases hv
  · obtain ⟨hv, hB⟩ := hv
    have hP := wH_j hh hP hk hB
    rcases hv with ⟨-, hv⟩ | ⟨hk1, a, hv, ce, hce, hvm, hcls⟩ | ⟨hk1, a, hv, ce, hce, hvm, hcls⟩
    · cases hv
    · cases hv
      refine wt_catchA (own := RX0) (name := iaeN) htab hown (by decide) (by decide) (hts _ q136) hYK.2.1.1 hce hvm (by rw [hcls]; exact hYK.2.2.1) ?_
      refine W.eq (g2 := F0 m 14 ls [.ref x]) rfl ?_
      refine lv_astore (lv' := [(5, .ref x), (0, .ref (h 0)), (1, .long p1), (3, .int w1), (4, .ref (h 13))]) hx hb dX0_known_14 hl (by decide) rfl (fun ls hl => ?_)
      refine lv_iconst (v := 1) hx hb dX0_known_16 (by decide) ?_
      exact xiret hx hb hr hlk hS dX0_known_17 ⟨by rw [hk1], P, v, hok, fun h0 => absurd (hk1.symm.trans h0) (by decide), hP⟩
    · exact absurd hk1 kn_n2
set_option maxHeartbeats 4000000 in
theorem mX0_batch (l : Launch) (Y : YT) (h : Nat → Nat) (hh : aD 14 h) (sz : Nat) (L : Lg) (P : Pg) (v : Nat → Int64) (hfl : l.flags = flags0) (k1 w1 : Int32) (hlg : LogOK L) (hok : PgOK (gP L) (gN L) P) : XMet l yX0_batch (wsW_ yX0_batch cX0_batch 5 (some .int) [(0, 9, 12, 13)]) ({ frames := 8, cells := 1, slots := 6, locals := 130 }) (wPre Y h L P v sz [.ref (h 0), .int k1, .int w1, .ref (h 13)]) (xQ (wPost Y h L (baR L k1 w1).1 (baR L k1 w1).2) (aA 14 h sz)) 1 6 (aA 14 h sz) := by
  refine XMet.ofWH (cc := cX0_batch) (maxL := 5) (ret := some .int) (hh := [(0, 9, 12, 13)]) (by decide) rfl ?_
  intro p e s m args below meth c s₁ B hml htab hv
  obtain ⟨rfl, hsz, hP, hYK, hex⟩ := hv
  have hx := B.exec
  have hb := B.bytes
  have hr := B.returns
  have hlk := B.notSynchronized
  have hts := atoms_spec (ws := wsW_ yX0_batch cX0_batch 5 (some .int) [(0, 9, 12, 13)]) B.pre
  have hts : ∀ w ∈ lw_all, w.before _ s = true := fun w h => hts w (List.mem_cons_of_mem _ h)
  have hown : s.vm.findClass RX0 = some m.cls := findClass_of_methodNamed B.named
  subst hsz
  have hK := hYK.1
  have hPb := wH_b hP
  have hS : va_S (aA 14 h s.heap.size) s.heap s.heap [] := va_S.rf
  have hl := lv_entry [.ref (h 0), .int k1, .int w1, .ref (h 13)] (n := 5) (Nat.le_of_ble_eq_true rfl)
  rw [lg_entry_eq]
  generalize (lg_sl [.ref (h 0), .int k1, .int w1, .ref (h 13)] ++ List.replicate (5 - (lg_sl [.ref (h 0), .int k1, .int w1, .ref (h 13)]).length) Slot.unset).toArray = ls at hl ⊢
  have hl : lv_has ls 5 [(0, .ref (h 0)), (1, .int k1), (2, .int w1), (3, .ref (h 13))] := hl
  refine lv_aload_n hx hb dX0_batch_0 rfl (lv_at hl 3 rfl) ?_
  refine lv_iconst (v := 0) hx hb dX0_batch_1 (by decide) ?_
  refine lv_aload_n hx hb dX0_batch_2 rfl (lv_at hl 0 rfl) ?_
  refine lv_iload_n hx hb dX0_batch_3 rfl (lv_at hl 1 rfl) ?_
  refine lv_iload_n hx hb dX0_batch_4 rfl (lv_at hl 2 rfl) ?_
  refine xgo (xrunV (As := [.int k1, .int w1]) (rest := [.int 0, .ref (h 13)]) ⟨hx, hb, hml, hown, hts⟩ (mX1_batch l Y h (hh.le (by decide)) s.heap.size L P hfl k1 w1 hlg hok) (cwV 2 hts (lw_V q289 q290 q291 q11 q292) rfl rfl rfl (by decide +kernel) ⟨Nat.le_of_ble_eq_true rfl, Nat.le_of_ble_eq_true rfl⟩) ⟨bPreX_bl, va_recv hK hPb (ci := 0) (q0 := 0) rfl rfl, fun U hU hW => ⟨rfl, by rw [hU], by rw [hU]; exact hPb, hYK.moved hW.alike, hex.moved hW (fun q c h _ => by rw [hU]; exact h)⟩⟩ rfl rfl hl.1 rfl (lv_room (Nat.le_of_ble_eq_true rfl)) dX0_batch_5 ⟨Nat.le_of_ble_eq_true rfl, Nat.le_of_ble_eq_true rfl⟩) hS (fun q _ h => aA_up (by decide) (Nat.le_refl _) h) (fun q h => aA_up (by decide) (Nat.le_refl _) h) (fun vv H locs hv hz hk hS => ?_) (fun x H locs hv hz hk hS => ?_)
  · obtain ⟨hv, hB⟩ := hv
    have hP := wH_j hh hP hk hB
    rcases hv with ⟨hk0, hv⟩ | ⟨-, a, hv, -⟩ | ⟨-, a, hv, -⟩
    · cases hv
      refine W.eq (g2 := F0 m 8 ls [.long ((baR L k1 w1).2), .int 0, .ref (h 13)]) rfl ?_
      refine y_last hx hb hK hP (wk_D hh) hS 13 1 v rfl rfl 0 (by decide) (by decide) dX0_batch_8 (fun H locs hP hS => ?_)
      refine lv_goto (tgt := 16) hx hb dX0_batch_9 (by decide) ?_
      refine lv_iconst (v := 0) hx hb dX0_batch_16 (by decide) ?_
      exact xiret hx hb hr hlk hS dX0_batch_17 ⟨by rw [hk0], P, vp_updL v 0 ((baR L k1 w1).2), hok, fun _ => pk_uLs, hP⟩
    · cases hv
    · cases hv
  · obtain ⟨hv, hB⟩ := hv
    have hP := wH_j hh hP hk hB
    rcases hv with ⟨-, hv⟩ | ⟨hk1, a, hv, ce, hce, hvm, hcls⟩ | ⟨hk1, a, hv, ce, hce, hvm, hcls⟩
    · cases hv
    · cases hv
      refine wt_catchA (own := RX0) (name := iaeN) htab hown (by decide) (by decide) (hts _ q136) hYK.2.1.1 hce hvm (by rw [hcls]; exact hYK.2.2.1) ?_
      refine W.eq (g2 := F0 m 12 ls [.ref x]) rfl ?_
      refine lv_astore (lv' := [(4, .ref x), (0, .ref (h 0)), (1, .int k1), (2, .int w1), (3, .ref (h 13))]) hx hb dX0_batch_12 hl (by decide) rfl (fun ls hl => ?_)
      refine lv_iconst (v := 1) hx hb dX0_batch_14 (by decide) ?_
      exact xiret hx hb hr hlk hS dX0_batch_15 ⟨by rw [hk1], P, v, hok, fun h0 => absurd (hk1.symm.trans h0) (by decide), hP⟩
    · exact absurd hk1 ba_n2
set_option maxHeartbeats 4000000 in
theorem mX0_count (l : Launch) (Y : YT) (h : Nat → Nat) (hh : aD 14 h) (sz : Nat) (L : Lg) (P : Pg) (v : Nat → Int64) (hfl : l.flags = flags0) (w1 : Int32) (hlg : LogOK L) (hok : PgOK (gP L) (gN L) P) : XMet l yX0_count (wsW_ yX0_count cX0_count 4 (some .int) [(0, 9, 12, 13)]) ({ frames := 8, cells := 1, slots := 6, locals := 130 }) (wPre Y h L P v sz [.ref (h 0), .int w1, .ref (h 13)]) (xQ (wPost Y h L (coR L w1).1 (coR L w1).2.toInt64) (aA 14 h sz)) 1 6 (aA 14 h sz) := by
  refine XMet.ofWH (cc := cX0_count) (maxL := 4) (ret := some .int) (hh := [(0, 9, 12, 13)]) (by decide) rfl ?_
  intro p e s m args below meth c s₁ B hml htab hv
  obtain ⟨rfl, hsz, hP, hYK, hex⟩ := hv
  have hx := B.exec
  have hb := B.bytes
  have hr := B.returns
  have hlk := B.notSynchronized
  have hts := atoms_spec (ws := wsW_ yX0_count cX0_count 4 (some .int) [(0, 9, 12, 13)]) B.pre
  have hts : ∀ w ∈ lw_all, w.before _ s = true := fun w h => hts w (List.mem_cons_of_mem _ h)
  have hown : s.vm.findClass RX0 = some m.cls := findClass_of_methodNamed B.named
  subst hsz
  have hK := hYK.1
  have hPb := wH_b hP
  have hS : va_S (aA 14 h s.heap.size) s.heap s.heap [] := va_S.rf
  have hl := lv_entry [.ref (h 0), .int w1, .ref (h 13)] (n := 4) (Nat.le_of_ble_eq_true rfl)
  rw [lg_entry_eq]
  generalize (lg_sl [.ref (h 0), .int w1, .ref (h 13)] ++ List.replicate (4 - (lg_sl [.ref (h 0), .int w1, .ref (h 13)]).length) Slot.unset).toArray = ls at hl ⊢
  have hl : lv_has ls 4 [(0, .ref (h 0)), (1, .int w1), (2, .ref (h 13))] := hl
  refine lv_aload_n hx hb dX0_count_0 rfl (lv_at hl 2 rfl) ?_
  refine lv_iconst (v := 0) hx hb dX0_count_1 (by decide) ?_
  refine lv_aload_n hx hb dX0_count_2 rfl (lv_at hl 0 rfl) ?_
  refine lv_iload_n hx hb dX0_count_3 rfl (lv_at hl 1 rfl) ?_
  refine xgo (xrunV (As := [.int w1]) (rest := [.int 0, .ref (h 13)]) ⟨hx, hb, hml, hown, hts⟩ (mX1_count l Y h (hh.le (by decide)) s.heap.size L P hfl w1 hlg hok) (cwV 1 hts (lw_V q296 q297 q298 q11 q299) rfl rfl rfl (by decide +kernel) ⟨Nat.le_of_ble_eq_true rfl, Nat.le_of_ble_eq_true rfl⟩) ⟨bPreX_bl, va_recv hK hPb (ci := 0) (q0 := 0) rfl rfl, fun U hU hW => ⟨rfl, by rw [hU], by rw [hU]; exact hPb, hYK.moved hW.alike, hex.moved hW (fun q c h _ => by rw [hU]; exact h)⟩⟩ rfl rfl hl.1 rfl (lv_room (Nat.le_of_ble_eq_true rfl)) dX0_count_4 ⟨Nat.le_of_ble_eq_true rfl, Nat.le_of_ble_eq_true rfl⟩) hS (fun q _ h => aA_up (by decide) (Nat.le_refl _) h) (fun q h => aA_up (by decide) (Nat.le_refl _) h) (fun vv H locs hv hz hk hS => ?_) (fun x H locs hv hz hk hS => ?_)
  · obtain ⟨hv, hB⟩ := hv
    have hP := wH_j hh hP hk hB
    rcases hv with ⟨hk0, hv⟩ | ⟨-, a, hv, -⟩ | ⟨-, a, hv, -⟩
    · cases hv
      refine W.eq (g2 := F0 m 7 ls [.int ((coR L w1).2), .int 0, .ref (h 13)]) rfl ?_
      refine lv_i2l (v := (coR L w1).2.toInt64) hx hb dX0_count_7 rfl ?_
      refine y_last hx hb hK hP (wk_D hh) hS 13 1 v rfl rfl 0 (by decide) (by decide) dX0_count_8 (fun H locs hP hS => ?_)
      refine lv_goto (tgt := 15) hx hb dX0_count_9 (by decide) ?_
      refine lv_iconst (v := 0) hx hb dX0_count_15 (by decide) ?_
      exact xiret hx hb hr hlk hS dX0_count_16 ⟨by rw [hk0], P, vp_updL v 0 ((coR L w1).2.toInt64), hok, fun _ => pk_uLs, hP⟩
    · cases hv
    · cases hv
  · obtain ⟨hv, hB⟩ := hv
    have hP := wH_j hh hP hk hB
    rcases hv with ⟨-, hv⟩ | ⟨hk1, a, hv, ce, hce, hvm, hcls⟩ | ⟨hk1, a, hv, ce, hce, hvm, hcls⟩
    · cases hv
    · cases hv
      refine wt_catchA (own := RX0) (name := iaeN) htab hown (by decide) (by decide) (hts _ q136) hYK.2.1.1 hce hvm (by rw [hcls]; exact hYK.2.2.1) ?_
      refine W.eq (g2 := F0 m 12 ls [.ref x]) rfl ?_
      refine lv_astore_n (lv' := [(3, .ref x), (0, .ref (h 0)), (1, .int w1), (2, .ref (h 13))]) hx hb dX0_count_12 rfl hl (by decide) rfl (fun ls hl => ?_)
      refine lv_iconst (v := 1) hx hb dX0_count_13 (by decide) ?_
      exact xiret hx hb hr hlk hS dX0_count_14 ⟨by rw [hk1], P, v, hok, fun h0 => absurd (hk1.symm.trans h0) (by decide), hP⟩
    · exact absurd hk1 co_n2
end
section
/-! WHAT IS KNOWN AT THE LAW's ENTRY -/
set_option maxRecDepth 100000
theorem arr_of {ty : FieldType} (hprim : ∀ C, ty ≠ .object C) {args : Array Value} {s : State} (h : (Cond.arrayClass ty).before args s = true) : ∃ cA : ClassId, ArrOfT s cA ty ∧ va_RA s cA ty := by
  obtain ⟨cA, kA, comp, h1, h2, h3⟩ := Cond.arrayClass_spec h
  refine ⟨cA, fun n z => ⟨fun k h => (by cases h), kA, h2, comp, h3⟩, ?_⟩
  cases ty with
  | object C => exact absurd rfl (hprim C)
  | _ => exact h1
theorem not_cast {A B : String} {a b : ClassId} {args : Array Value} {s : State} (h : (Cond.not (Cond.castable A B)).before args s = true) (ha : s.vm.findClass A = some a) (hb : s.vm.findClass B = some b) : s.vm.assignable a b = false := by
  simpa [Cond.before, Cond.holds, Cond.value, ha, hb] using h
theorem start_Y {s : State} {b : Addr} (hts : ∀ w ∈ lw_tbl, w.before #[Value.ref b] s = true) (hgv : (Jvm.Cond.and given_1 narrow_1).before #[Value.ref b] s = true) : ∃ Y : YT, YK Y s ∧ exOK s ∧ va_Nw rowsInit s := by
  have hg := flat_of_before _ hgv
  obtain ⟨c0, i0, k0⟩ := u_known (C := RX1) (T := TX1) (N := 2) (n := 2) hts (fun w h => lw_all_tbl (in_X1 w h)) (hts _ (lw_all_tbl q22))
  obtain ⟨c1, i1, k1⟩ := u_known (C := RX2) (T := TX2) (N := 8) (n := 8) hts (fun w h => lw_all_tbl (in_X2 w h)) (hts _ (lw_all_tbl q30))
  obtain ⟨c2, i2, k2⟩ := u_known (C := RX3) (T := TX3) (N := 6) (n := 6) hts (fun w h => lw_all_tbl (in_X3 w h)) (hts _ (lw_all_tbl q76))
  obtain ⟨c3, i3, k3⟩ := u_known (C := RX4) (T := TX4) (N := 8) (n := 8) hts (fun w h => lw_all_tbl (in_X4 w h)) (hts _ (lw_all_tbl q301))
  obtain ⟨aI, hI⟩ := arr_of (by intro C; exact nofun) (hts _ (lw_all_tbl q71))
  obtain ⟨aJ, hJ⟩ := arr_of (by intro C; exact nofun) (hts _ (lw_all_tbl q72))
  obtain ⟨aS, hS⟩ := arr_of (by intro C; exact nofun) (hts _ (lw_all_tbl q73))
  obtain ⟨aZ, hZ⟩ := arr_of (by intro C; exact nofun) (hts _ (lw_all_tbl q74))
  obtain ⟨cE, cE', e1, e2, e3⟩ := Cond.castable_spec (hts _ q151)
  cases e1.symm.trans e2
  obtain ⟨cF, cF', f1, f2, f3⟩ := Cond.castable_spec (hts _ q241)
  cases f1.symm.trans f2
  have g1 := not_cast (hg (Cond.not (Cond.castable "java/lang/IllegalStateException" "java/lang/IllegalArgumentException")) (by decide +kernel)) f1 e1
  refine ⟨((fun k => if k = 0 then c0 else if k = 1 then c1 else if k = 2 then c2 else c3, fun k => if k = 0 then i0 else if k = 1 then i1 else if k = 2 then i2 else i3), (aI, aJ, aS, aZ), (cE, cF)), ⟨⟨?_, ?_⟩, ⟨e1, f1⟩, e3, f3, g1⟩, ⟨?_, ⟨?_, ?_⟩, ?_, ?_⟩, va_Nw.of rfl (hts _ q31)⟩
  · intro k q hq
    match k, hq with
    | 0, hq => cases hq; exact k0
    | 1, hq => cases hq; exact k1
    | 2, hq => cases hq; exact k2
    | 3, hq => cases hq; exact k3
    | k + 4, hq => simp [vwCl] at hq
  · intro k q hq
    match k, hq with
    | 0, hq => cases hq; exact hI
    | 1, hq => cases hq; exact hJ
    | 2, hq => cases hq; exact hS
    | 3, hq => cases hq; exact hZ
    | k + 4, hq => simp [yTys] at hq
  · intro w hw
    have ht : w ∈ lw_tbl := by
      simp only [exT, List.mem_cons, List.not_mem_nil, or_false] at hw
      rcases hw with e | e | e | e | e
      · rw [e]; exact q152
      · rw [e]; exact q154
      · rw [e]; exact q156
      · rw [e]; exact q151
      · rw [e]; exact q241
    exact va_tabs (List.all_eq_true.mp (show exT.all Cond.onTables = true by rfl) w hw) rfl (hts w ht)
  · exact hts _ q176
  · exact hts _ q178
  · exact hg (Cond.isRef (.static "java/lang/Throwable" "UNASSIGNED_STACK" "[Ljava/lang/StackTraceElement;")) (by decide +kernel)
  · exact hg (Cond.isRef (.static "java/lang/Throwable" "SUPPRESSED_SENTINEL" "Ljava/util/List;")) (by decide +kernel)
end
section
/-! THE CLAIM OUT OF ONE WALK OF THE LAW'S BODY. Your part is whole_start (and what it stands on); all else here is the same for every law, but numbers. -/
def R_law : String := "ProducerBookLaw"
def lw_P (b : Addr) (xs : List Int32) (args : Array Value) (s : State) : Prop := args = #[.ref b] ∧ s.IntsAt b xs ∧ xs.length ≤ 3584 ∧ (Jvm.Cond.and given_1 narrow_1).before args s = true
def lw_Q (_ : Array Value) (s : State) (o : Outcome) (t : State) : Prop := o = .returned (some (.int 1)) ∧ Framed s o t [] 600000 7290000
def lw_Z (below : List Frame) (a : Array Value) (s : State) : State → Prop := fun t => ∃ o, t.status = .running ∧ Ended t below o ∧ lw_Q a s o t
/-- the law's own end, with 1 on the stack, nothing written that was there before, its room as the claim has it -/
theorem lw_ret {p : Program} {l : Launch} {e : Env} {s : State} {m : MethodId} {below : List Frame} {meth : Method} {c : Code} {b : Nat} (hx : p.tables.exec = Jvm.exec) (hb : c.code = code) (hr : meth.sig.returnType = ret) (hlocks : meth.locks = false) {pc : Nat} {H : Heap} {ls : Array Slot} (hdg : decode code pc = .ok (.ireturn, 1)) : W p l e room_1 s m #[Value.ref b] below meth c H [] 600000 7290000 (lw_Z below #[Value.ref b] s) (F0 m pc ls [.int 1]) := by
  intro T hT X
  obtain ⟨fs, hret, hrun, hended, hW, hframe⟩ := X.leave (v := some (.int 1)) (hlocks := hlocks) (fun h => by rw [hr] at h; cases h)
  have hmeth' : T.vm.method? m = some meth := X.method'
  refine ⟨T.setFrames fs, ?_, .returned (some (.int 1)), hrun, hended, rfl, ⟨_, rfl⟩, hW, hframe⟩
  jvm_step X.here [X.here.top, hx, hb, hdg, hmeth', hr, ret, narrow_b1]
  (try refine ⟨rfl, ?_⟩); (try refine ⟨rfl, ?_⟩)
  first | (intro acts; rw [hret _ acts rfl rfl rfl]) | rw [hret _ _ rfl rfl rfl]
  exact Steps.refl _
/-- what holds at the law's entry: the machine, the code, the tables' words (any of lw_tbl by 'hts w (by decide +kernel)'), the script of L ints xs at the cell b, what the Statement gives of the start (any of its parts by flat_of_before) -/
def lw_At (p : Program) (s : State) (m : MethodId) (meth : Method) (c : Code) (b L : Nat) (xs : Nat → Int32) : Prop :=
  p.tables.exec = Jvm.exec ∧ c.code = code ∧ meth.sig.returnType = ret ∧ c.maxLocals = 8 ∧ s.vm.findClass R_law = some m.cls ∧ (∀ w ∈ lw_tbl, w.before #[Value.ref b] s = true) ∧ va_X b L xs s s.heap ∧ b < s.heap.size ∧ meth.locks = false ∧ (Jvm.Cond.and given_1 narrow_1).before #[Value.ref b] s = true
end
section
/-! THE LAW's LOOP: what a round is, the seven cases (written by prog/law.py) -/
set_option maxRecDepth 100000
abbrev mo (k : Nat → Nat) : Nat → Nat := fun i => k (14 + i)
theorem mo_D {k : Nat → Nat} (hh : aD 20 k) : aD 6 (mo k) := fun i j hi hj e => by
  have := hh (14 + i) (14 + j) (by omega) (by omega) e
  omega
theorem aA_new {N sz sz' : Nat} {h : Nat → Nat} (hk : ∀ i, i < N → sz ≤ h i) (hs : sz ≤ sz') {q : Nat} (H : aA N h sz' q) : sA sz q := by
  rcases H with ⟨i, h1, h2⟩ | H
  · rw [h2]; exact hk i h1
  · exact Nat.le_trans hs H
theorem mo_new {sz : Nat} {k : Nat → Nat} (hk : ∀ i, i < 20 → sz ≤ k i) : ∀ i, i < 6 → sz ≤ mo k i := fun i hi => hk (14 + i) (by omega)
theorem le_new {N sz : Nat} {k : Nat → Nat} (hN : N ≤ 20) (hk : ∀ i, i < 20 → sz ≤ k i) : ∀ i, i < N → sz ≤ k i := fun i hi => hk i (by omega)
/-- the model stays where the book and out alone are touched -/
theorem mo_off {Y : YT} {k : Nat → Nat} {G : Lg} {cd : Int32} {H H1 : Heap} {N : Nat} (hN : N ≤ 14) (hh : aD 20 k) (hP : mH Y (mo k) G cd H) (hk : ∀ q : Nat, q < H.size → ¬ aA N k H.size q → H1[q]? = H[q]?) : mH Y (mo k) G cd H1 := by
  refine P_off hP hk (fun i q hq => ?_)
  have hl := (hP i q hq).lt
  obtain ⟨h1, h2⟩ := at_of (N := 6) (h := mo k) rfl hq
  rw [h2] at hl ⊢
  rintro (⟨z, h3, h4⟩ | h3)
  · have := hh (14 + i) z (by omega) (by omega) h4
    omega
  · omega
/-- the book and out stay where the model alone is touched -/
theorem wk_off {Y : YT} {k : Nat → Nat} {G : Lg} {P : Pg} {v : Nat → Int64} {H H1 : Heap} (hh : aD 20 k) (hP : wH Y k G P v H) (hk : ∀ q : Nat, q < H.size → ¬ aA 6 (mo k) H.size q → H1[q]? = H[q]?) : wH Y k G P v H1 := by
  refine P_off hP hk (fun i q hq => ?_)
  have hl := (hP i q hq).lt
  obtain ⟨h1, h2⟩ := at_of (N := 14) (h := k) rfl hq
  rw [h2] at hl ⊢
  rintro (⟨z, h3, h4⟩ | h3)
  · have := hh i (14 + z) (by omega) (by omega) h4
    omega
  · omega
theorem ex_new {s : State} {H : Heap} {locs : List Loc} (hS : va_S (sA s.heap.size) s.heap H locs) : exKept s.heap H := by
  intro q cell hq _
  have hl : q < s.heap.size := (Array.getElem?_eq_some_iff.mp hq).1
  rw [hS.2.1 q hl (fun h => Nat.lt_irrefl _ (Nat.lt_of_lt_of_le hl h))]
  exact hq
/-- all that stays through the law: the machine, the code, the words, the script, the classes, the 20 cells (book k 0 .. k 12, out k 13, model k 14 .. k 19) -/
def LawC (p : Program) (l : Launch) (s : State) (m : MethodId) (meth : Method) (c : Code) (b L : Nat) (xs : Nat → Int32) (Y : YT) (k : Nat → Nat) : Prop :=
  p.tables.exec = Jvm.exec ∧ c.code = cL_law ∧ meth.sig.returnType = ret ∧ c.maxLocals = 8 ∧ s.vm.findClass RX0 = some m.cls ∧ (∀ w ∈ lw_all, w.before #[Value.ref b] s = true) ∧ va_X b L xs s s.heap ∧ b < s.heap.size ∧ meth.locks = false ∧ l.flags = flags0 ∧ YK Y s ∧ exOK s ∧ aD 20 k ∧ (∀ i, i < 20 → s.heap.size ≤ k i) ∧ L ≤ 3584
abbrev lawL (k : Nat → Nat) (b j : Nat) : List (Nat × Value) := [(4, .int (nI (7 * j))), (0, .ref b), (1, .ref (k 0)), (2, .ref (k 14)), (3, .ref (k 13))]
/-- a round's end -/
def lawFin (p : Program) (l : Launch) (e : Env) (s : State) (m : MethodId) (below : List Frame) (meth : Method) (c : Code) (b : Nat) (Y : YT) (k : Nat → Nat) (j : Nat) : Prop :=
  ∀ (G : Lg) (P : Pg) (v : Nat → Int64) (cd : Int32) (H : Heap) (locs : List Loc) (ls : Array Slot), LogOK G → PgOK (gP G) (gN G) P → wH Y k G P v H → mH Y (mo k) G cd H → va_S (sA s.heap.size) s.heap H locs → lv_has ls 8 (lawL k b j) →
    W p l e room_1 s m #[Value.ref b] below meth c H locs (20 + 2 * j + 2) (40200 + 12 * j + 12) (lw_Z below #[Value.ref b] s) (F0 m 638 ls [])
section LS
variable {p : Program} {l : Launch} {e : Env} {R : Room} {s : State} {m : MethodId} {args : Array Value} {below : List Frame} {meth : Method} {c : Code} {H : Heap} {locs : List Loc} {cells slots : Nat} {Q : State → Prop} {cc : ByteArray} {pc : Nat} {ls : Array Slot} {rest : List Value} {A : Nat → Prop} {H0 : Heap}
theorem y_sld (hexec : p.tables.exec = Jvm.exec) (hb : c.code = cc) {b L : Nat} {xs : Nat → Int32} (hX : va_X b L xs s H0) (hbl : b < H0.size) (hbA : ¬ A b) (hS : va_S A H0 H locs) (k : Nat) (hk : k < L) (hL : L < 2 ^ 31) (hdg : decode cc pc = .ok (.iaload, 1))
    (kk : W p l e R s m args below meth c H locs cells slots Q (F0 m (pc + 1) ls (.int (xs k) :: rest))) : W p l e R s m args below meth c H locs cells slots Q (F0 m pc ls (.int (nI k) :: .ref b :: rest)) := by
  refine va_sld hexec hb hX hbl hbA hS (vp_in_nI hk hL) hdg ?_
  rw [nI_clamp (Nat.lt_trans hk hL)]
  exact kk
end LS
theorem and7 (x : Int32) : x &&& 7 = 0 ∨ x &&& 7 = 1 ∨ x &&& 7 = 2 ∨ x &&& 7 = 3 ∨ x &&& 7 = 4 ∨ x &&& 7 = 5 ∨ x &&& 7 = 6 ∨ x &&& 7 = 7 := by
  have hlt : (x &&& 7).toBitVec.toNat < 8 := by
    rw [Int32.toBitVec_and, BitVec.toNat_and]
    exact Nat.and_lt_two_pow (n := 3) _ (by decide)
  have key : ∀ (n : Nat) (y : Int32), y.toBitVec = BitVec.ofNat 32 n → (x &&& 7).toBitVec.toNat = n → x &&& 7 = y := by
    intro n y hy hn
    rw [← Int32.toBitVec_inj, hy, ← hn]
    exact BitVec.eq_of_toNat_eq (by rw [BitVec.toNat_ofNat, Nat.mod_eq_of_lt (BitVec.isLt _)])
  generalize hn : (x &&& 7).toBitVec.toNat = n at hlt
  rcases (show n = 0 ∨ n = 1 ∨ n = 2 ∨ n = 3 ∨ n = 4 ∨ n = 5 ∨ n = 6 ∨ n = 7 by omega) with h | h | h | h | h | h | h | h <;> subst h
  · exact Or.inl (key 0 0 rfl hn)
  · exact Or.inr (Or.inl (key 1 1 rfl hn))
  · exact Or.inr (Or.inr (Or.inl (key 2 2 rfl hn)))
  · exact Or.inr (Or.inr (Or.inr (Or.inl (key 3 3 rfl hn))))
  · exact Or.inr (Or.inr (Or.inr (Or.inr (Or.inl (key 4 4 rfl hn)))))
  · exact Or.inr (Or.inr (Or.inr (Or.inr (Or.inr (Or.inl (key 5 5 rfl hn))))))
  · exact Or.inr (Or.inr (Or.inr (Or.inr (Or.inr (Or.inr (Or.inl (key 6 6 rfl hn)))))))
  · exact Or.inr (Or.inr (Or.inr (Or.inr (Or.inr (Or.inr (Or.inr (key 7 7 rfl hn)))))))
set_option maxHeartbeats 4000000 in
theorem law_0 {p : Program} {l : Launch} {e : Env} {s : State} {m : MethodId} {below : List Frame} {meth : Method} {c : Code} {b L : Nat} {xs : Nat → Int32} {Y : YT} {k : Nat → Nat} (C : LawC p l s m meth c b L xs Y k) (j : Nat) (hj : 7 * j + 7 ≤ L) (fin : lawFin p l e s m below meth c b Y k j) (G : Lg) (P : Pg) (v : Nat → Int64) (cd : Int32) (H : Heap) (locs : List Loc) (ls : Array Slot) (hlg : LogOK G) (hok : PgOK (gP G) (gN G) P) (hW : wH Y k G P v H) (hM : mH Y (mo k) G cd H) (hS : va_S (sA s.heap.size) s.heap H locs) (hl : lv_has ls 8 (lawL k b j)) :
    W p l e room_1 s m #[Value.ref b] below meth c H locs (20 + 2 * j) (40200 + 12 * j) (lw_Z below #[Value.ref b] s) (F0 m 84 ls []) := by
  obtain ⟨hx, hb, hr, hml, hown, hts, hX, hbl, hlk, hfl, hYK, hex, hh, hk0, hL⟩ := C
  have hK := hYK.1
  have hbA : ¬ sA s.heap.size b := Nat.not_le.mpr hbl
  have hL31 : L < 2 ^ 31 := Nat.lt_of_le_of_lt hL (by decide)
  obtain ⟨p1, hp1⟩ : ∃ z : Int64, z = ((xs (7 * j + 1)).toInt64 <<< ((32 : Int32).toInt64 &&& 63)) ||| ((xs (7 * j + 2)).toInt64 &&& 4294967295) := ⟨_, rfl⟩
  refine lv_aload_n hx hb dL_law_84 rfl (lv_at hl 2 rfl) ?_
  refine lv_aload_n hx hb dL_law_85 rfl (lv_at hl 1 rfl) ?_
  refine lv_iload hx hb dL_law_86 (lv_at hl 0 rfl) ?_
  refine lv_iconst (v := 1) hx hb dL_law_88 (by decide) ?_
  refine lv_iadd hx hb dL_law_89 ?_
  refine xi_eq (nI (7 * j + 1)) (nI_add (7 * j) 1) ?_
  refine y_sld hx hb hX hbl hbA hS (7 * j + 1) (by omega) hL31 dL_law_90 ?_
  refine lv_i2l (v := (xs (7 * j + 1)).toInt64) hx hb dL_law_91 rfl ?_
  refine lv_bipush (v := 32) hx hb dL_law_92 (by decide) ?_
  refine lv_lshl (v := ((xs (7 * j + 1)).toInt64) <<< ((32 : Int32).toInt64 &&& 63)) hx hb dL_law_94 rfl ?_
  refine lv_aload_n hx hb dL_law_95 rfl (lv_at hl 1 rfl) ?_
  refine lv_iload hx hb dL_law_96 (lv_at hl 0 rfl) ?_
  refine lv_iconst (v := 2) hx hb dL_law_98 (by decide) ?_
  refine lv_iadd hx hb dL_law_99 ?_
  refine xi_eq (nI (7 * j + 2)) (nI_add (7 * j) 2) ?_
  refine y_sld hx hb hX hbl hbA hS (7 * j + 2) (by omega) hL31 dL_law_100 ?_
  refine lv_i2l (v := (xs (7 * j + 2)).toInt64) hx hb dL_law_101 rfl ?_
  refine lv_ldc2 hx hb hown (hts _ q396) dL_law_102 ?_
  refine lv_land hx hb dL_law_105 ?_
  refine lv_lor hx hb dL_law_106 ?_
  refine xl_eq p1 hp1.symm ?_
  refine lv_aload_n hx hb dL_law_107 rfl (lv_at hl 1 rfl) ?_
  refine lv_iload hx hb dL_law_108 (lv_at hl 0 rfl) ?_
  refine lv_iconst (v := 3) hx hb dL_law_110 (by decide) ?_
  refine lv_iadd hx hb dL_law_111 ?_
  refine xi_eq (nI (7 * j + 3)) (nI_add (7 * j) 3) ?_
  refine y_sld hx hb hX hbl hbA hS (7 * j + 3) (by omega) hL31 dL_law_112 ?_
  refine lv_aload_n hx hb dL_law_113 rfl (lv_at hl 1 rfl) ?_
  refine lv_iload hx hb dL_law_114 (lv_at hl 0 rfl) ?_
  refine lv_iconst (v := 4) hx hb dL_law_116 (by decide) ?_
  refine lv_iadd hx hb dL_law_117 ?_
  refine xi_eq (nI (7 * j + 4)) (nI_add (7 * j) 4) ?_
  refine y_sld hx hb hX hbl hbA hS (7 * j + 4) (by omega) hL31 dL_law_118 ?_
  refine lv_aload_n hx hb dL_law_119 rfl (lv_at hl 1 rfl) ?_
  refine lv_iload hx hb dL_law_120 (lv_at hl 0 rfl) ?_
  refine lv_iconst (v := 5) hx hb dL_law_122 (by decide) ?_
  refine lv_iadd hx hb dL_law_123 ?_
  refine xi_eq (nI (7 * j + 5)) (nI_add (7 * j) 5) ?_
  refine y_sld hx hb hX hbl hbA hS (7 * j + 5) (by omega) hL31 dL_law_124 ?_
  refine lv_aload_n hx hb dL_law_125 rfl (lv_at hl 4 rfl) ?_
  refine xgoI (xrunSW (hh := [(0, 15, 18, 13), (0, 15, 22, 15)]) (n := 6) (As := [.ref (k 0), .long p1, .int (xs (7 * j + 3)), .int (xs (7 * j + 4)), .int (xs (7 * j + 5)), .ref (k 13)]) (rest := []) ⟨hx, hb, hml, hown, hts⟩ (mX0_offer l Y k (hh.le (by decide)) H.size G P v hfl p1 (xs (7 * j + 3)) (xs (7 * j + 4)) (xs (7 * j + 5)) hlg hok) rfl rfl (Nat.le_of_ble_eq_true rfl) (Nat.le_of_ble_eq_true rfl) (lw_SW q133 q134 q10 q135) List.mem_cons_self (by decide +kernel) ⟨wPre_bl, fun U hU hW2 => ⟨rfl, by rw [hU], by rw [hU]; exact hW, hYK.moved hW2.alike, hex.moved hW2 (by rw [hU]; exact ex_new hS)⟩⟩ rfl rfl hl.1 rfl (lv_room (Nat.le_of_ble_eq_true rfl)) dL_law_126 ⟨by show _ ≤ 600000; omega, by show _ ≤ 7290000; omega⟩) hS (fun q _ h => aA_new (le_new (by decide) hk0) hS.1 h) (fun q h => aA_new (le_new (by decide) hk0) hS.1 h) (fun H locs hp hz hk hS => ?_)
  obtain ⟨P2, v2, hok2, hv2, hW⟩ := hp
  have hM := mo_off (by decide) hh hM hk
  refine lv_istore (lv' := [(5, .int ((ofR G p1 (xs (7 * j + 3)) (xs (7 * j + 4)) (xs (7 * j + 5))).1)), (4, .int (nI (7 * j))), (0, .ref b), (1, .ref (k 0)), (2, .ref (k 14)), (3, .ref (k 13))]) hx hb dL_law_129 hl (by decide) rfl (fun ls hl => ?_)
  refine lv_aload_n hx hb dL_law_131 rfl (lv_at hl 4 rfl) ?_
  refine lv_aload_n hx hb dL_law_132 rfl (lv_at hl 2 rfl) ?_
  refine lv_iload hx hb dL_law_133 (lv_at hl 1 rfl) ?_
  refine lv_iconst (v := 1) hx hb dL_law_135 (by decide) ?_
  refine lv_iadd hx hb dL_law_136 ?_
  refine xi_eq (nI (7 * j + 1)) (nI_add (7 * j) 1) ?_
  refine y_sld hx hb hX hbl hbA hS (7 * j + 1) (by omega) hL31 dL_law_137 ?_
  refine lv_i2l (v := (xs (7 * j + 1)).toInt64) hx hb dL_law_138 rfl ?_
  refine lv_bipush (v := 32) hx hb dL_law_139 (by decide) ?_
  refine lv_lshl (v := ((xs (7 * j + 1)).toInt64) <<< ((32 : Int32).toInt64 &&& 63)) hx hb dL_law_141 rfl ?_
  refine lv_aload_n hx hb dL_law_142 rfl (lv_at hl 2 rfl) ?_
  refine lv_iload hx hb dL_law_143 (lv_at hl 1 rfl) ?_
  refine lv_iconst (v := 2) hx hb dL_law_145 (by decide) ?_
  refine lv_iadd hx hb dL_law_146 ?_
  refine xi_eq (nI (7 * j + 2)) (nI_add (7 * j) 2) ?_
  refine y_sld hx hb hX hbl hbA hS (7 * j + 2) (by omega) hL31 dL_law_147 ?_
  refine lv_i2l (v := (xs (7 * j + 2)).toInt64) hx hb dL_law_148 rfl ?_
  refine lv_ldc2 hx hb hown (hts _ q396) dL_law_149 ?_
  refine lv_land hx hb dL_law_152 ?_
  refine lv_lor hx hb dL_law_153 ?_
  refine xl_eq p1 hp1.symm ?_
  refine lv_aload_n hx hb dL_law_154 rfl (lv_at hl 2 rfl) ?_
  refine lv_iload hx hb dL_law_155 (lv_at hl 1 rfl) ?_
  refine lv_iconst (v := 3) hx hb dL_law_157 (by decide) ?_
  refine lv_iadd hx hb dL_law_158 ?_
  refine xi_eq (nI (7 * j + 3)) (nI_add (7 * j) 3) ?_
  refine y_sld hx hb hX hbl hbA hS (7 * j + 3) (by omega) hL31 dL_law_159 ?_
  refine lv_aload_n hx hb dL_law_160 rfl (lv_at hl 2 rfl) ?_
  refine lv_iload hx hb dL_law_161 (lv_at hl 1 rfl) ?_
  refine lv_iconst (v := 4) hx hb dL_law_163 (by decide) ?_
  refine lv_iadd hx hb dL_law_164 ?_
  refine xi_eq (nI (7 * j + 4)) (nI_add (7 * j) 4) ?_
  refine y_sld hx hb hX hbl hbA hS (7 * j + 4) (by omega) hL31 dL_law_165 ?_
  refine lv_aload_n hx hb dL_law_166 rfl (lv_at hl 2 rfl) ?_
  refine lv_iload hx hb dL_law_167 (lv_at hl 1 rfl) ?_
  refine lv_iconst (v := 5) hx hb dL_law_169 (by decide) ?_
  refine lv_iadd hx hb dL_law_170 ?_
  refine xi_eq (nI (7 * j + 5)) (nI_add (7 * j) 5) ?_
  refine y_sld hx hb hX hbl hbA hS (7 * j + 5) (by omega) hL31 dL_law_171 ?_
  refine xgoI (xrunV (As := [.long p1, .int (xs (7 * j + 3)), .int (xs (7 * j + 4)), .int (xs (7 * j + 5))]) (rest := []) ⟨hx, hb, hml, hown, hts⟩ (mX4_offer l Y (mo k) (mo_D hh) H.size G cd p1 (xs (7 * j + 3)) (xs (7 * j + 4)) (xs (7 * j + 5)) hlg) (cwV 4 hts (lw_V q335 q336 q337 q14 q338) rfl rfl rfl (by decide +kernel) ⟨Nat.le_of_ble_eq_true rfl, Nat.le_of_ble_eq_true rfl⟩) ⟨mPre_bl, va_recv hK hM (ci := 3) (q0 := 0) rfl rfl, fun U hU hW => ⟨rfl, by rw [hU], by rw [hU]; exact hM, hYK.moved hW.alike⟩⟩ rfl rfl hl.1 rfl (lv_room (Nat.le_of_ble_eq_true rfl)) dL_law_172 ⟨by show _ ≤ 600000; omega, by show _ ≤ 7290000; omega⟩) hS (fun q _ h => aA_new (mo_new hk0) hS.1 h) (fun q h => aA_new (mo_new hk0) hS.1 h) (fun H locs hM hz hk hS => ?_)
  have hW := wk_off hh hW hk
  refine lv_istore (lv' := [(6, .int ((ofR G p1 (xs (7 * j + 3)) (xs (7 * j + 4)) (xs (7 * j + 5))).2.1)), (5, .int ((ofR G p1 (xs (7 * j + 3)) (xs (7 * j + 4)) (xs (7 * j + 5))).1)), (4, .int (nI (7 * j))), (0, .ref b), (1, .ref (k 0)), (2, .ref (k 14)), (3, .ref (k 13))]) hx hb dL_law_175 hl (by decide) rfl (fun ls hl => ?_)
  refine lv_aload_n hx hb dL_law_177 rfl (lv_at hl 5 rfl) ?_
  refine xgoI (xrunV (As := []) (rest := []) ⟨hx, hb, hml, hown, hts⟩ (mX4_thrown l Y (mo k) (mo_D hh) H.size (ofR G p1 (xs (7 * j + 3)) (xs (7 * j + 4)) (xs (7 * j + 5))).2.2 (ofR G p1 (xs (7 * j + 3)) (xs (7 * j + 4)) (xs (7 * j + 5))).1) (cwV 0 hts (lw_V q331 q332 q333 q14 q334) rfl rfl rfl (by decide +kernel) ⟨Nat.le_of_ble_eq_true rfl, Nat.le_of_ble_eq_true rfl⟩) ⟨mPre_bl, va_recv hK hM (ci := 3) (q0 := 0) rfl rfl, fun U hU hW => ⟨rfl, by rw [hU], by rw [hU]; exact hM, hYK.moved hW.alike⟩⟩ rfl rfl hl.1 rfl (lv_room (Nat.le_of_ble_eq_true rfl)) dL_law_178 ⟨by show _ ≤ 600000; omega, by show _ ≤ 7290000; omega⟩) hS (fun q _ h => aA_new (mo_new hk0) hS.1 h) (fun q h => aA_new (mo_new hk0) hS.1 h) (fun H locs hM hz hk hS => ?_)
  have hW := wk_off hh hW hk
  refine lv_iload hx hb dL_law_181 (lv_at hl 1 rfl) ?_
  refine lv_icmp_eq (tgt := 188) hx hb dL_law_183 (by decide) (fun _ => ?_) (fun h => absurd rfl h)
  refine lv_iload hx hb dL_law_188 (lv_at hl 1 rfl) ?_
  refine lv_if_ne (tgt := 205) hx hb dL_law_190 (by decide) (fun _ => ?_) (fun c0 => ?_)
  · refine lv_goto (tgt := 638) hx hb dL_law_205 (by decide) ?_
    refine W.widen (k := 20 + 2 * j + 2) (n := 40200 + 12 * j + 12) (by omega) (by omega) ?_
    exact fin _ _ _ _ _ _ _ (of_ok _ _ _ _ hlg) hok2 hW hM hS (lv_sub hl [2, 3, 4, 5, 6] rfl)
  · refine lv_aload_n hx hb dL_law_193 rfl (lv_at hl 6 rfl) ?_
    refine lv_iconst (v := 0) hx hb dL_law_194 (by decide) ?_
    refine y_lald hx hb hK hW 13 1 v2 rfl rfl 0 (by decide) (by decide) dL_law_195 ?_
    refine lv_iload hx hb dL_law_196 (lv_at hl 0 rfl) ?_
    refine lv_i2l (v := ((ofR G p1 (xs (7 * j + 3)) (xs (7 * j + 4)) (xs (7 * j + 5))).2.1).toInt64) hx hb dL_law_198 rfl ?_
    refine W.lcmp hx hb dL_law_199 ?_
    refine lv_if_eq (tgt := 205) hx hb dL_law_200 (by decide) (fun _ => ?_) (fun h => absurd ((lg_cmp_eq _ _).mpr (hv2 c0)) h)
    refine lv_goto (tgt := 638) hx hb dL_law_205 (by decide) ?_
    refine W.widen (k := 20 + 2 * j + 2) (n := 40200 + 12 * j + 12) (by omega) (by omega) ?_
    exact fin _ _ _ _ _ _ _ (of_ok _ _ _ _ hlg) hok2 hW hM hS (lv_sub hl [2, 3, 4, 5, 6] rfl)
set_option maxHeartbeats 4000000 in
theorem law_1 {p : Program} {l : Launch} {e : Env} {s : State} {m : MethodId} {below : List Frame} {meth : Method} {c : Code} {b L : Nat} {xs : Nat → Int32} {Y : YT} {k : Nat → Nat} (C : LawC p l s m meth c b L xs Y k) (j : Nat) (hj : 7 * j + 7 ≤ L) (fin : lawFin p l e s m below meth c b Y k j) (G : Lg) (P : Pg) (v : Nat → Int64) (cd : Int32) (H : Heap) (locs : List Loc) (ls : Array Slot) (hlg : LogOK G) (hok : PgOK (gP G) (gN G) P) (hW : wH Y k G P v H) (hM : mH Y (mo k) G cd H) (hS : va_S (sA s.heap.size) s.heap H locs) (hl : lv_has ls 8 (lawL k b j)) :
    W p l e room_1 s m #[Value.ref b] below meth c H locs (20 + 2 * j) (40200 + 12 * j) (lw_Z below #[Value.ref b] s) (F0 m 208 ls []) := by
  obtain ⟨hx, hb, hr, hml, hown, hts, hX, hbl, hlk, hfl, hYK, hex, hh, hk0, hL⟩ := C
  have hK := hYK.1
  have hbA : ¬ sA s.heap.size b := Nat.not_le.mpr hbl
  have hL31 : L < 2 ^ 31 := Nat.lt_of_le_of_lt hL (by decide)
  obtain ⟨p1, hp1⟩ : ∃ z : Int64, z = ((xs (7 * j + 2)).toInt64 <<< ((32 : Int32).toInt64 &&& 63)) ||| ((xs (7 * j + 3)).toInt64 &&& 4294967295) := ⟨_, rfl⟩
  refine lv_aload_n hx hb dL_law_208 rfl (lv_at hl 2 rfl) ?_
  refine lv_aload_n hx hb dL_law_209 rfl (lv_at hl 1 rfl) ?_
  refine lv_iload hx hb dL_law_210 (lv_at hl 0 rfl) ?_
  refine lv_iconst (v := 1) hx hb dL_law_212 (by decide) ?_
  refine lv_iadd hx hb dL_law_213 ?_
  refine xi_eq (nI (7 * j + 1)) (nI_add (7 * j) 1) ?_
  refine y_sld hx hb hX hbl hbA hS (7 * j + 1) (by omega) hL31 dL_law_214 ?_
  refine lv_aload_n hx hb dL_law_215 rfl (lv_at hl 1 rfl) ?_
  refine lv_iload hx hb dL_law_216 (lv_at hl 0 rfl) ?_
  refine lv_iconst (v := 2) hx hb dL_law_218 (by decide) ?_
  refine lv_iadd hx hb dL_law_219 ?_
  refine xi_eq (nI (7 * j + 2)) (nI_add (7 * j) 2) ?_
  refine y_sld hx hb hX hbl hbA hS (7 * j + 2) (by omega) hL31 dL_law_220 ?_
  refine lv_i2l (v := (xs (7 * j + 2)).toInt64) hx hb dL_law_221 rfl ?_
  refine lv_bipush (v := 32) hx hb dL_law_222 (by decide) ?_
  refine lv_lshl (v := ((xs (7 * j + 2)).toInt64) <<< ((32 : Int32).toInt64 &&& 63)) hx hb dL_law_224 rfl ?_
  refine lv_aload_n hx hb dL_law_225 rfl (lv_at hl 1 rfl) ?_
  refine lv_iload hx hb dL_law_226 (lv_at hl 0 rfl) ?_
  refine lv_iconst (v := 3) hx hb dL_law_228 (by decide) ?_
  refine lv_iadd hx hb dL_law_229 ?_
  refine xi_eq (nI (7 * j + 3)) (nI_add (7 * j) 3) ?_
  refine y_sld hx hb hX hbl hbA hS (7 * j + 3) (by omega) hL31 dL_law_230 ?_
  refine lv_i2l (v := (xs (7 * j + 3)).toInt64) hx hb dL_law_231 rfl ?_
  refine lv_ldc2 hx hb hown (hts _ q396) dL_law_232 ?_
  refine lv_land hx hb dL_law_235 ?_
  refine lv_lor hx hb dL_law_236 ?_
  refine xl_eq p1 hp1.symm ?_
  refine lv_aload_n hx hb dL_law_237 rfl (lv_at hl 1 rfl) ?_
  refine lv_iload hx hb dL_law_238 (lv_at hl 0 rfl) ?_
  refine lv_iconst (v := 4) hx hb dL_law_240 (by decide) ?_
  refine lv_iadd hx hb dL_law_241 ?_
  refine xi_eq (nI (7 * j + 4)) (nI_add (7 * j) 4) ?_
  refine y_sld hx hb hX hbl hbA hS (7 * j + 4) (by omega) hL31 dL_law_242 ?_
  refine lv_aload_n hx hb dL_law_243 rfl (lv_at hl 1 rfl) ?_
  refine lv_iload hx hb dL_law_244 (lv_at hl 0 rfl) ?_
  refine lv_iconst (v := 5) hx hb dL_law_246 (by decide) ?_
  refine lv_iadd hx hb dL_law_247 ?_
  refine xi_eq (nI (7 * j + 5)) (nI_add (7 * j) 5) ?_
  refine y_sld hx hb hX hbl hbA hS (7 * j + 5) (by omega) hL31 dL_law_248 ?_
  refine lv_aload_n hx hb dL_law_249 rfl (lv_at hl 1 rfl) ?_
  refine lv_iload hx hb dL_law_250 (lv_at hl 0 rfl) ?_
  refine lv_bipush (v := 6) hx hb dL_law_252 (by decide) ?_
  refine lv_iadd hx hb dL_law_254 ?_
  refine xi_eq (nI (7 * j + 6)) (nI_add (7 * j) 6) ?_
  refine y_sld hx hb hX hbl hbA hS (7 * j + 6) (by omega) hL31 dL_law_255 ?_
  refine lv_aload_n hx hb dL_law_256 rfl (lv_at hl 4 rfl) ?_
  refine xgoI (xrunSW (hh := [(0, 17, 20, 13), (0, 17, 24, 15)]) (n := 7) (As := [.ref (k 0), .int (xs (7 * j + 1)), .long p1, .int (xs (7 * j + 4)), .int (xs (7 * j + 5)), .int (xs (7 * j + 6)), .ref (k 13)]) (rest := []) ⟨hx, hb, hml, hown, hts⟩ (mX0_offers l Y k (hh.le (by decide)) H.size G P v hfl (xs (7 * j + 1)) p1 (xs (7 * j + 4)) (xs (7 * j + 5)) (xs (7 * j + 6)) hlg hok) rfl rfl (Nat.le_of_ble_eq_true rfl) (Nat.le_of_ble_eq_true rfl) (lw_SW q263 q264 q10 q265) List.mem_cons_self (by decide +kernel) ⟨wPre_bl, fun U hU hW2 => ⟨rfl, by rw [hU], by rw [hU]; exact hW, hYK.moved hW2.alike, hex.moved hW2 (by rw [hU]; exact ex_new hS)⟩⟩ rfl rfl hl.1 rfl (lv_room (Nat.le_of_ble_eq_true rfl)) dL_law_257 ⟨by show _ ≤ 600000; omega, by show _ ≤ 7290000; omega⟩) hS (fun q _ h => aA_new (le_new (by decide) hk0) hS.1 h) (fun q h => aA_new (le_new (by decide) hk0) hS.1 h) (fun H locs hp hz hk hS => ?_)
  obtain ⟨P2, v2, hok2, hv2, hW⟩ := hp
  have hM := mo_off (by decide) hh hM hk
  refine lv_istore (lv' := [(5, .int ((osR G (xs (7 * j + 1)) p1 (xs (7 * j + 4)) (xs (7 * j + 5)) (xs (7 * j + 6))).1)), (4, .int (nI (7 * j))), (0, .ref b), (1, .ref (k 0)), (2, .ref (k 14)), (3, .ref (k 13))]) hx hb dL_law_260 hl (by decide) rfl (fun ls hl => ?_)
  refine lv_aload_n hx hb dL_law_262 rfl (lv_at hl 4 rfl) ?_
  refine lv_aload_n hx hb dL_law_263 rfl (lv_at hl 2 rfl) ?_
  refine lv_iload hx hb dL_law_264 (lv_at hl 1 rfl) ?_
  refine lv_iconst (v := 1) hx hb dL_law_266 (by decide) ?_
  refine lv_iadd hx hb dL_law_267 ?_
  refine xi_eq (nI (7 * j + 1)) (nI_add (7 * j) 1) ?_
  refine y_sld hx hb hX hbl hbA hS (7 * j + 1) (by omega) hL31 dL_law_268 ?_
  refine lv_aload_n hx hb dL_law_269 rfl (lv_at hl 2 rfl) ?_
  refine lv_iload hx hb dL_law_270 (lv_at hl 1 rfl) ?_
  refine lv_iconst (v := 2) hx hb dL_law_272 (by decide) ?_
  refine lv_iadd hx hb dL_law_273 ?_
  refine xi_eq (nI (7 * j + 2)) (nI_add (7 * j) 2) ?_
  refine y_sld hx hb hX hbl hbA hS (7 * j + 2) (by omega) hL31 dL_law_274 ?_
  refine lv_i2l (v := (xs (7 * j + 2)).toInt64) hx hb dL_law_275 rfl ?_
  refine lv_bipush (v := 32) hx hb dL_law_276 (by decide) ?_
  refine lv_lshl (v := ((xs (7 * j + 2)).toInt64) <<< ((32 : Int32).toInt64 &&& 63)) hx hb dL_law_278 rfl ?_
  refine lv_aload_n hx hb dL_law_279 rfl (lv_at hl 2 rfl) ?_
  refine lv_iload hx hb dL_law_280 (lv_at hl 1 rfl) ?_
  refine lv_iconst (v := 3) hx hb dL_law_282 (by decide) ?_
  refine lv_iadd hx hb dL_law_283 ?_
  refine xi_eq (nI (7 * j + 3)) (nI_add (7 * j) 3) ?_
  refine y_sld hx hb hX hbl hbA hS (7 * j + 3) (by omega) hL31 dL_law_284 ?_
  refine lv_i2l (v := (xs (7 * j + 3)).toInt64) hx hb dL_law_285 rfl ?_
  refine lv_ldc2 hx hb hown (hts _ q396) dL_law_286 ?_
  refine lv_land hx hb dL_law_289 ?_
  refine lv_lor hx hb dL_law_290 ?_
  refine xl_eq p1 hp1.symm ?_
  refine lv_aload_n hx hb dL_law_291 rfl (lv_at hl 2 rfl) ?_
  refine lv_iload hx hb dL_law_292 (lv_at hl 1 rfl) ?_
  refine lv_iconst (v := 4) hx hb dL_law_294 (by decide) ?_
  refine lv_iadd hx hb dL_law_295 ?_
  refine xi_eq (nI (7 * j + 4)) (nI_add (7 * j) 4) ?_
  refine y_sld hx hb hX hbl hbA hS (7 * j + 4) (by omega) hL31 dL_law_296 ?_
  refine lv_aload_n hx hb dL_law_297 rfl (lv_at hl 2 rfl) ?_
  refine lv_iload hx hb dL_law_298 (lv_at hl 1 rfl) ?_
  refine lv_iconst (v := 5) hx hb dL_law_300 (by decide) ?_
  refine lv_iadd hx hb dL_law_301 ?_
  refine xi_eq (nI (7 * j + 5)) (nI_add (7 * j) 5) ?_
  refine y_sld hx hb hX hbl hbA hS (7 * j + 5) (by omega) hL31 dL_law_302 ?_
  refine lv_aload_n hx hb dL_law_303 rfl (lv_at hl 2 rfl) ?_
  refine lv_iload hx hb dL_law_304 (lv_at hl 1 rfl) ?_
  refine lv_bipush (v := 6) hx hb dL_law_306 (by decide) ?_
  refine lv_iadd hx hb dL_law_308 ?_
  refine xi_eq (nI (7 * j + 6)) (nI_add (7 * j) 6) ?_
  refine y_sld hx hb hX hbl hbA hS (7 * j + 6) (by omega) hL31 dL_law_309 ?_
  refine xgoI (xrunV (As := [.int (xs (7 * j + 1)), .long p1, .int (xs (7 * j + 4)), .int (xs (7 * j + 5)), .int (xs (7 * j + 6))]) (rest := []) ⟨hx, hb, hml, hown, hts⟩ (mX4_offers l Y (mo k) (mo_D hh) H.size G cd (xs (7 * j + 1)) p1 (xs (7 * j + 4)) (xs (7 * j + 5)) (xs (7 * j + 6)) hlg) (cwV 5 hts (lw_V q360 q361 q362 q14 q363) rfl rfl rfl (by decide +kernel) ⟨Nat.le_of_ble_eq_true rfl, Nat.le_of_ble_eq_true rfl⟩) ⟨mPre_bl, va_recv hK hM (ci := 3) (q0 := 0) rfl rfl, fun U hU hW => ⟨rfl, by rw [hU], by rw [hU]; exact hM, hYK.moved hW.alike⟩⟩ rfl rfl hl.1 rfl (lv_room (Nat.le_of_ble_eq_true rfl)) dL_law_310 ⟨by show _ ≤ 600000; omega, by show _ ≤ 7290000; omega⟩) hS (fun q _ h => aA_new (mo_new hk0) hS.1 h) (fun q h => aA_new (mo_new hk0) hS.1 h) (fun H locs hM hz hk hS => ?_)
  have hW := wk_off hh hW hk
  refine lv_istore (lv' := [(6, .int ((osR G (xs (7 * j + 1)) p1 (xs (7 * j + 4)) (xs (7 * j + 5)) (xs (7 * j + 6))).2.1)), (5, .int ((osR G (xs (7 * j + 1)) p1 (xs (7 * j + 4)) (xs (7 * j + 5)) (xs (7 * j + 6))).1)), (4, .int (nI (7 * j))), (0, .ref b), (1, .ref (k 0)), (2, .ref (k 14)), (3, .ref (k 13))]) hx hb dL_law_313 hl (by decide) rfl (fun ls hl => ?_)
  refine lv_aload_n hx hb dL_law_315 rfl (lv_at hl 5 rfl) ?_
  refine xgoI (xrunV (As := []) (rest := []) ⟨hx, hb, hml, hown, hts⟩ (mX4_thrown l Y (mo k) (mo_D hh) H.size (osR G (xs (7 * j + 1)) p1 (xs (7 * j + 4)) (xs (7 * j + 5)) (xs (7 * j + 6))).2.2 (osR G (xs (7 * j + 1)) p1 (xs (7 * j + 4)) (xs (7 * j + 5)) (xs (7 * j + 6))).1) (cwV 0 hts (lw_V q331 q332 q333 q14 q334) rfl rfl rfl (by decide +kernel) ⟨Nat.le_of_ble_eq_true rfl, Nat.le_of_ble_eq_true rfl⟩) ⟨mPre_bl, va_recv hK hM (ci := 3) (q0 := 0) rfl rfl, fun U hU hW => ⟨rfl, by rw [hU], by rw [hU]; exact hM, hYK.moved hW.alike⟩⟩ rfl rfl hl.1 rfl (lv_room (Nat.le_of_ble_eq_true rfl)) dL_law_316 ⟨by show _ ≤ 600000; omega, by show _ ≤ 7290000; omega⟩) hS (fun q _ h => aA_new (mo_new hk0) hS.1 h) (fun q h => aA_new (mo_new hk0) hS.1 h) (fun H locs hM hz hk hS => ?_)
  have hW := wk_off hh hW hk
  refine lv_iload hx hb dL_law_319 (lv_at hl 1 rfl) ?_
  refine lv_icmp_eq (tgt := 326) hx hb dL_law_321 (by decide) (fun _ => ?_) (fun h => absurd rfl h)
  refine lv_iload hx hb dL_law_326 (lv_at hl 1 rfl) ?_
  refine lv_if_ne (tgt := 343) hx hb dL_law_328 (by decide) (fun _ => ?_) (fun c0 => ?_)
  · refine lv_goto (tgt := 638) hx hb dL_law_343 (by decide) ?_
    refine W.widen (k := 20 + 2 * j + 2) (n := 40200 + 12 * j + 12) (by omega) (by omega) ?_
    exact fin _ _ _ _ _ _ _ (os_ok _ _ _ _ _ hlg) hok2 hW hM hS (lv_sub hl [2, 3, 4, 5, 6] rfl)
  · refine lv_aload_n hx hb dL_law_331 rfl (lv_at hl 6 rfl) ?_
    refine lv_iconst (v := 0) hx hb dL_law_332 (by decide) ?_
    refine y_lald hx hb hK hW 13 1 v2 rfl rfl 0 (by decide) (by decide) dL_law_333 ?_
    refine lv_iload hx hb dL_law_334 (lv_at hl 0 rfl) ?_
    refine lv_i2l (v := ((osR G (xs (7 * j + 1)) p1 (xs (7 * j + 4)) (xs (7 * j + 5)) (xs (7 * j + 6))).2.1).toInt64) hx hb dL_law_336 rfl ?_
    refine W.lcmp hx hb dL_law_337 ?_
    refine lv_if_eq (tgt := 343) hx hb dL_law_338 (by decide) (fun _ => ?_) (fun h => absurd ((lg_cmp_eq _ _).mpr (hv2 c0)) h)
    refine lv_goto (tgt := 638) hx hb dL_law_343 (by decide) ?_
    refine W.widen (k := 20 + 2 * j + 2) (n := 40200 + 12 * j + 12) (by omega) (by omega) ?_
    exact fin _ _ _ _ _ _ _ (os_ok _ _ _ _ _ hlg) hok2 hW hM hS (lv_sub hl [2, 3, 4, 5, 6] rfl)
set_option maxHeartbeats 4000000 in
theorem law_2 {p : Program} {l : Launch} {e : Env} {s : State} {m : MethodId} {below : List Frame} {meth : Method} {c : Code} {b L : Nat} {xs : Nat → Int32} {Y : YT} {k : Nat → Nat} (C : LawC p l s m meth c b L xs Y k) (j : Nat) (hj : 7 * j + 7 ≤ L) (fin : lawFin p l e s m below meth c b Y k j) (G : Lg) (P : Pg) (v : Nat → Int64) (cd : Int32) (H : Heap) (locs : List Loc) (ls : Array Slot) (hlg : LogOK G) (hok : PgOK (gP G) (gN G) P) (hW : wH Y k G P v H) (hM : mH Y (mo k) G cd H) (hS : va_S (sA s.heap.size) s.heap H locs) (hl : lv_has ls 8 (lawL k b j)) :
    W p l e room_1 s m #[Value.ref b] below meth c H locs (20 + 2 * j) (40200 + 12 * j) (lw_Z below #[Value.ref b] s) (F0 m 346 ls []) := by
  obtain ⟨hx, hb, hr, hml, hown, hts, hX, hbl, hlk, hfl, hYK, hex, hh, hk0, hL⟩ := C
  have hK := hYK.1
  have hbA : ¬ sA s.heap.size b := Nat.not_le.mpr hbl
  have hL31 : L < 2 ^ 31 := Nat.lt_of_le_of_lt hL (by decide)
  refine lv_aload_n hx hb dL_law_346 rfl (lv_at hl 2 rfl) ?_
  refine lv_aload_n hx hb dL_law_347 rfl (lv_at hl 1 rfl) ?_
  refine lv_iload hx hb dL_law_348 (lv_at hl 0 rfl) ?_
  refine lv_iconst (v := 1) hx hb dL_law_350 (by decide) ?_
  refine lv_iadd hx hb dL_law_351 ?_
  refine xi_eq (nI (7 * j + 1)) (nI_add (7 * j) 1) ?_
  refine y_sld hx hb hX hbl hbA hS (7 * j + 1) (by omega) hL31 dL_law_352 ?_
  refine lv_aload_n hx hb dL_law_353 rfl (lv_at hl 4 rfl) ?_
  refine xgoI (xrunSW (hh := [(0, 9, 12, 13)]) (n := 3) (As := [.ref (k 0), .int (xs (7 * j + 1)), .ref (k 13)]) (rest := []) ⟨hx, hb, hml, hown, hts⟩ (mX0_drop l Y k (hh.le (by decide)) H.size G P v hfl (xs (7 * j + 1)) hlg hok) rfl rfl (Nat.le_of_ble_eq_true rfl) (Nat.le_of_ble_eq_true rfl) (lw_SW q271 q272 q10 q273) List.mem_cons_self (by decide +kernel) ⟨wPre_bl, fun U hU hW2 => ⟨rfl, by rw [hU], by rw [hU]; exact hW, hYK.moved hW2.alike, hex.moved hW2 (by rw [hU]; exact ex_new hS)⟩⟩ rfl rfl hl.1 rfl (lv_room (Nat.le_of_ble_eq_true rfl)) dL_law_354 ⟨by show _ ≤ 600000; omega, by show _ ≤ 7290000; omega⟩) hS (fun q _ h => aA_new (le_new (by decide) hk0) hS.1 h) (fun q h => aA_new (le_new (by decide) hk0) hS.1 h) (fun H locs hp hz hk hS => ?_)
  obtain ⟨P2, v2, hok2, hv2, hW⟩ := hp
  have hM := mo_off (by decide) hh hM hk
  refine lv_istore (lv' := [(5, .int ((drR G (xs (7 * j + 1))).1)), (4, .int (nI (7 * j))), (0, .ref b), (1, .ref (k 0)), (2, .ref (k 14)), (3, .ref (k 13))]) hx hb dL_law_357 hl (by decide) rfl (fun ls hl => ?_)
  refine lv_aload_n hx hb dL_law_359 rfl (lv_at hl 4 rfl) ?_
  refine lv_aload_n hx hb dL_law_360 rfl (lv_at hl 2 rfl) ?_
  refine lv_iload hx hb dL_law_361 (lv_at hl 1 rfl) ?_
  refine lv_iconst (v := 1) hx hb dL_law_363 (by decide) ?_
  refine lv_iadd hx hb dL_law_364 ?_
  refine xi_eq (nI (7 * j + 1)) (nI_add (7 * j) 1) ?_
  refine y_sld hx hb hX hbl hbA hS (7 * j + 1) (by omega) hL31 dL_law_365 ?_
  refine xgoI (xrunV (As := [.int (xs (7 * j + 1))]) (rest := []) ⟨hx, hb, hml, hown, hts⟩ (mX4_drop l Y (mo k) (mo_D hh) H.size G cd (xs (7 * j + 1)) hlg) (cwV 1 hts (lw_V q364 q365 q366 q14 q367) rfl rfl rfl (by decide +kernel) ⟨Nat.le_of_ble_eq_true rfl, Nat.le_of_ble_eq_true rfl⟩) ⟨mPre_bl, va_recv hK hM (ci := 3) (q0 := 0) rfl rfl, fun U hU hW => ⟨rfl, by rw [hU], by rw [hU]; exact hM, hYK.moved hW.alike⟩⟩ rfl rfl hl.1 rfl (lv_room (Nat.le_of_ble_eq_true rfl)) dL_law_366 ⟨by show _ ≤ 600000; omega, by show _ ≤ 7290000; omega⟩) hS (fun q _ h => aA_new (mo_new hk0) hS.1 h) (fun q h => aA_new (mo_new hk0) hS.1 h) (fun H locs hM hz hk hS => ?_)
  have hW := wk_off hh hW hk
  refine lv_istore (lv' := [(6, .int ((drR G (xs (7 * j + 1))).2.1)), (5, .int ((drR G (xs (7 * j + 1))).1)), (4, .int (nI (7 * j))), (0, .ref b), (1, .ref (k 0)), (2, .ref (k 14)), (3, .ref (k 13))]) hx hb dL_law_369 hl (by decide) rfl (fun ls hl => ?_)
  refine lv_aload_n hx hb dL_law_371 rfl (lv_at hl 5 rfl) ?_
  refine xgoI (xrunV (As := []) (rest := []) ⟨hx, hb, hml, hown, hts⟩ (mX4_thrown l Y (mo k) (mo_D hh) H.size (drR G (xs (7 * j + 1))).2.2 (drR G (xs (7 * j + 1))).1) (cwV 0 hts (lw_V q331 q332 q333 q14 q334) rfl rfl rfl (by decide +kernel) ⟨Nat.le_of_ble_eq_true rfl, Nat.le_of_ble_eq_true rfl⟩) ⟨mPre_bl, va_recv hK hM (ci := 3) (q0 := 0) rfl rfl, fun U hU hW => ⟨rfl, by rw [hU], by rw [hU]; exact hM, hYK.moved hW.alike⟩⟩ rfl rfl hl.1 rfl (lv_room (Nat.le_of_ble_eq_true rfl)) dL_law_372 ⟨by show _ ≤ 600000; omega, by show _ ≤ 7290000; omega⟩) hS (fun q _ h => aA_new (mo_new hk0) hS.1 h) (fun q h => aA_new (mo_new hk0) hS.1 h) (fun H locs hM hz hk hS => ?_)
  have hW := wk_off hh hW hk
  refine lv_iload hx hb dL_law_375 (lv_at hl 1 rfl) ?_
  refine lv_icmp_eq (tgt := 382) hx hb dL_law_377 (by decide) (fun _ => ?_) (fun h => absurd rfl h)
  refine lv_iload hx hb dL_law_382 (lv_at hl 1 rfl) ?_
  refine lv_if_ne (tgt := 399) hx hb dL_law_384 (by decide) (fun _ => ?_) (fun c0 => ?_)
  · refine lv_goto (tgt := 638) hx hb dL_law_399 (by decide) ?_
    refine W.widen (k := 20 + 2 * j + 2) (n := 40200 + 12 * j + 12) (by omega) (by omega) ?_
    exact fin _ _ _ _ _ _ _ (dr_ok _ hlg) hok2 hW hM hS (lv_sub hl [2, 3, 4, 5, 6] rfl)
  · refine lv_aload_n hx hb dL_law_387 rfl (lv_at hl 6 rfl) ?_
    refine lv_iconst (v := 0) hx hb dL_law_388 (by decide) ?_
    refine y_lald hx hb hK hW 13 1 v2 rfl rfl 0 (by decide) (by decide) dL_law_389 ?_
    refine lv_iload hx hb dL_law_390 (lv_at hl 0 rfl) ?_
    refine lv_i2l (v := ((drR G (xs (7 * j + 1))).2.1).toInt64) hx hb dL_law_392 rfl ?_
    refine W.lcmp hx hb dL_law_393 ?_
    refine lv_if_eq (tgt := 399) hx hb dL_law_394 (by decide) (fun _ => ?_) (fun h => absurd ((lg_cmp_eq _ _).mpr (hv2 c0)) h)
    refine lv_goto (tgt := 638) hx hb dL_law_399 (by decide) ?_
    refine W.widen (k := 20 + 2 * j + 2) (n := 40200 + 12 * j + 12) (by omega) (by omega) ?_
    exact fin _ _ _ _ _ _ _ (dr_ok _ hlg) hok2 hW hM hS (lv_sub hl [2, 3, 4, 5, 6] rfl)
set_option maxHeartbeats 4000000 in
theorem law_3 {p : Program} {l : Launch} {e : Env} {s : State} {m : MethodId} {below : List Frame} {meth : Method} {c : Code} {b L : Nat} {xs : Nat → Int32} {Y : YT} {k : Nat → Nat} (C : LawC p l s m meth c b L xs Y k) (j : Nat) (hj : 7 * j + 7 ≤ L) (fin : lawFin p l e s m below meth c b Y k j) (G : Lg) (P : Pg) (v : Nat → Int64) (cd : Int32) (H : Heap) (locs : List Loc) (ls : Array Slot) (hlg : LogOK G) (hok : PgOK (gP G) (gN G) P) (hW : wH Y k G P v H) (hM : mH Y (mo k) G cd H) (hS : va_S (sA s.heap.size) s.heap H locs) (hl : lv_has ls 8 (lawL k b j)) :
    W p l e room_1 s m #[Value.ref b] below meth c H locs (20 + 2 * j) (40200 + 12 * j) (lw_Z below #[Value.ref b] s) (F0 m 402 ls []) := by
  obtain ⟨hx, hb, hr, hml, hown, hts, hX, hbl, hlk, hfl, hYK, hex, hh, hk0, hL⟩ := C
  have hK := hYK.1
  have hbA : ¬ sA s.heap.size b := Nat.not_le.mpr hbl
  have hL31 : L < 2 ^ 31 := Nat.lt_of_le_of_lt hL (by decide)
  refine lv_aload_n hx hb dL_law_402 rfl (lv_at hl 2 rfl) ?_
  have hPb := wH_b hW
  refine xgoI (xrunV (As := []) (rest := []) ⟨hx, hb, hml, hown, hts⟩ (mX1_thin l Y k (hh.le (by decide)) H.size G P hlg hok) (cwV 0 hts (lw_V q108 q109 q110 q11 q111) rfl rfl rfl (by decide +kernel) ⟨Nat.le_of_ble_eq_true rfl, Nat.le_of_ble_eq_true rfl⟩) ⟨bPre_bl, va_recv hK hPb (ci := 0) (q0 := 0) rfl rfl, fun U hU hW => ⟨rfl, by rw [hU], by rw [hU]; exact hPb, hYK.moved hW.alike⟩⟩ rfl rfl hl.1 rfl (lv_room (Nat.le_of_ble_eq_true rfl)) dL_law_403 ⟨by show _ ≤ 600000; omega, by show _ ≤ 7290000; omega⟩) hS (fun q _ h => aA_new (le_new (by decide) hk0) hS.1 h) (fun q h => aA_new (le_new (by decide) hk0) hS.1 h) (fun H locs hp hz hk hS => ?_)
  obtain ⟨P2, hok2, hB⟩ := hp
  have hW := wH_j (hh.le (by decide)) hW hk hB
  have hM := mo_off (by decide) hh hM hk
  refine lv_aload_n hx hb dL_law_406 rfl (lv_at hl 3 rfl) ?_
  refine xgoI (xrunV (As := []) (rest := [.int (thR G).1]) ⟨hx, hb, hml, hown, hts⟩ (mX4_thin l Y (mo k) (mo_D hh) H.size G cd hlg) (cwV 0 hts (lw_V q372 q373 q374 q14 q375) rfl rfl rfl (by decide +kernel) ⟨Nat.le_of_ble_eq_true rfl, Nat.le_of_ble_eq_true rfl⟩) ⟨mPre_bl, va_recv hK hM (ci := 3) (q0 := 0) rfl rfl, fun U hU hW => ⟨rfl, by rw [hU], by rw [hU]; exact hM, hYK.moved hW.alike⟩⟩ rfl rfl hl.1 rfl (lv_room (Nat.le_of_ble_eq_true rfl)) dL_law_407 ⟨by show _ ≤ 600000; omega, by show _ ≤ 7290000; omega⟩) hS (fun q _ h => aA_new (mo_new hk0) hS.1 h) (fun q h => aA_new (mo_new hk0) hS.1 h) (fun H locs hM hz hk hS => ?_)
  have hW := wk_off hh hW hk
  refine lv_icmp_eq (tgt := 638) hx hb dL_law_410 (by decide) (fun _ => ?_) (fun h => absurd rfl h)
  refine W.widen (k := 20 + 2 * j + 2) (n := 40200 + 12 * j + 12) (by omega) (by omega) ?_
  exact fin _ _ _ _ _ _ _ (th_ok hlg) hok2 hW hM hS hl
set_option maxHeartbeats 4000000 in
theorem law_4 {p : Program} {l : Launch} {e : Env} {s : State} {m : MethodId} {below : List Frame} {meth : Method} {c : Code} {b L : Nat} {xs : Nat → Int32} {Y : YT} {k : Nat → Nat} (C : LawC p l s m meth c b L xs Y k) (j : Nat) (hj : 7 * j + 7 ≤ L) (fin : lawFin p l e s m below meth c b Y k j) (G : Lg) (P : Pg) (v : Nat → Int64) (cd : Int32) (H : Heap) (locs : List Loc) (ls : Array Slot) (hlg : LogOK G) (hok : PgOK (gP G) (gN G) P) (hW : wH Y k G P v H) (hM : mH Y (mo k) G cd H) (hS : va_S (sA s.heap.size) s.heap H locs) (hl : lv_has ls 8 (lawL k b j)) :
    W p l e room_1 s m #[Value.ref b] below meth c H locs (20 + 2 * j) (40200 + 12 * j) (lw_Z below #[Value.ref b] s) (F0 m 415 ls []) := by
  obtain ⟨hx, hb, hr, hml, hown, hts, hX, hbl, hlk, hfl, hYK, hex, hh, hk0, hL⟩ := C
  have hK := hYK.1
  have hbA : ¬ sA s.heap.size b := Nat.not_le.mpr hbl
  have hL31 : L < 2 ^ 31 := Nat.lt_of_le_of_lt hL (by decide)
  obtain ⟨p1, hp1⟩ : ∃ z : Int64, z = ((xs (7 * j + 1)).toInt64 <<< ((32 : Int32).toInt64 &&& 63)) ||| ((xs (7 * j + 2)).toInt64 &&& 4294967295) := ⟨_, rfl⟩
  refine lv_aload_n hx hb dL_law_415 rfl (lv_at hl 2 rfl) ?_
  refine lv_aload_n hx hb dL_law_416 rfl (lv_at hl 1 rfl) ?_
  refine lv_iload hx hb dL_law_417 (lv_at hl 0 rfl) ?_
  refine lv_iconst (v := 1) hx hb dL_law_419 (by decide) ?_
  refine lv_iadd hx hb dL_law_420 ?_
  refine xi_eq (nI (7 * j + 1)) (nI_add (7 * j) 1) ?_
  refine y_sld hx hb hX hbl hbA hS (7 * j + 1) (by omega) hL31 dL_law_421 ?_
  refine lv_i2l (v := (xs (7 * j + 1)).toInt64) hx hb dL_law_422 rfl ?_
  refine lv_bipush (v := 32) hx hb dL_law_423 (by decide) ?_
  refine lv_lshl (v := ((xs (7 * j + 1)).toInt64) <<< ((32 : Int32).toInt64 &&& 63)) hx hb dL_law_425 rfl ?_
  refine lv_aload_n hx hb dL_law_426 rfl (lv_at hl 1 rfl) ?_
  refine lv_iload hx hb dL_law_427 (lv_at hl 0 rfl) ?_
  refine lv_iconst (v := 2) hx hb dL_law_429 (by decide) ?_
  refine lv_iadd hx hb dL_law_430 ?_
  refine xi_eq (nI (7 * j + 2)) (nI_add (7 * j) 2) ?_
  refine y_sld hx hb hX hbl hbA hS (7 * j + 2) (by omega) hL31 dL_law_431 ?_
  refine lv_i2l (v := (xs (7 * j + 2)).toInt64) hx hb dL_law_432 rfl ?_
  refine lv_ldc2 hx hb hown (hts _ q396) dL_law_433 ?_
  refine lv_land hx hb dL_law_436 ?_
  refine lv_lor hx hb dL_law_437 ?_
  refine xl_eq p1 hp1.symm ?_
  refine lv_aload_n hx hb dL_law_438 rfl (lv_at hl 1 rfl) ?_
  refine lv_iload hx hb dL_law_439 (lv_at hl 0 rfl) ?_
  refine lv_iconst (v := 3) hx hb dL_law_441 (by decide) ?_
  refine lv_iadd hx hb dL_law_442 ?_
  refine xi_eq (nI (7 * j + 3)) (nI_add (7 * j) 3) ?_
  refine y_sld hx hb hX hbl hbA hS (7 * j + 3) (by omega) hL31 dL_law_443 ?_
  refine lv_aload_n hx hb dL_law_444 rfl (lv_at hl 4 rfl) ?_
  refine xgoI (xrunSW (hh := [(0, 11, 14, 13)]) (n := 4) (As := [.ref (k 0), .long p1, .int (xs (7 * j + 3)), .ref (k 13)]) (rest := []) ⟨hx, hb, hml, hown, hts⟩ (mX0_known l Y k (hh.le (by decide)) H.size G P v hfl p1 (xs (7 * j + 3)) hlg hok) rfl rfl (Nat.le_of_ble_eq_true rfl) (Nat.le_of_ble_eq_true rfl) (lw_SW q279 q280 q10 q281) List.mem_cons_self (by decide +kernel) ⟨wPre_bl, fun U hU hW2 => ⟨rfl, by rw [hU], by rw [hU]; exact hW, hYK.moved hW2.alike, hex.moved hW2 (by rw [hU]; exact ex_new hS)⟩⟩ rfl rfl hl.1 rfl (lv_room (Nat.le_of_ble_eq_true rfl)) dL_law_445 ⟨by show _ ≤ 600000; omega, by show _ ≤ 7290000; omega⟩) hS (fun q _ h => aA_new (le_new (by decide) hk0) hS.1 h) (fun q h => aA_new (le_new (by decide) hk0) hS.1 h) (fun H locs hp hz hk hS => ?_)
  obtain ⟨P2, v2, hok2, hv2, hW⟩ := hp
  have hM := mo_off (by decide) hh hM hk
  refine lv_istore (lv' := [(5, .int ((knR G p1 (xs (7 * j + 3))).1)), (4, .int (nI (7 * j))), (0, .ref b), (1, .ref (k 0)), (2, .ref (k 14)), (3, .ref (k 13))]) hx hb dL_law_448 hl (by decide) rfl (fun ls hl => ?_)
  refine lv_aload_n hx hb dL_law_450 rfl (lv_at hl 4 rfl) ?_
  refine lv_aload_n hx hb dL_law_451 rfl (lv_at hl 2 rfl) ?_
  refine lv_iload hx hb dL_law_452 (lv_at hl 1 rfl) ?_
  refine lv_iconst (v := 1) hx hb dL_law_454 (by decide) ?_
  refine lv_iadd hx hb dL_law_455 ?_
  refine xi_eq (nI (7 * j + 1)) (nI_add (7 * j) 1) ?_
  refine y_sld hx hb hX hbl hbA hS (7 * j + 1) (by omega) hL31 dL_law_456 ?_
  refine lv_i2l (v := (xs (7 * j + 1)).toInt64) hx hb dL_law_457 rfl ?_
  refine lv_bipush (v := 32) hx hb dL_law_458 (by decide) ?_
  refine lv_lshl (v := ((xs (7 * j + 1)).toInt64) <<< ((32 : Int32).toInt64 &&& 63)) hx hb dL_law_460 rfl ?_
  refine lv_aload_n hx hb dL_law_461 rfl (lv_at hl 2 rfl) ?_
  refine lv_iload hx hb dL_law_462 (lv_at hl 1 rfl) ?_
  refine lv_iconst (v := 2) hx hb dL_law_464 (by decide) ?_
  refine lv_iadd hx hb dL_law_465 ?_
  refine xi_eq (nI (7 * j + 2)) (nI_add (7 * j) 2) ?_
  refine y_sld hx hb hX hbl hbA hS (7 * j + 2) (by omega) hL31 dL_law_466 ?_
  refine lv_i2l (v := (xs (7 * j + 2)).toInt64) hx hb dL_law_467 rfl ?_
  refine lv_ldc2 hx hb hown (hts _ q396) dL_law_468 ?_
  refine lv_land hx hb dL_law_471 ?_
  refine lv_lor hx hb dL_law_472 ?_
  refine xl_eq p1 hp1.symm ?_
  refine lv_aload_n hx hb dL_law_473 rfl (lv_at hl 2 rfl) ?_
  refine lv_iload hx hb dL_law_474 (lv_at hl 1 rfl) ?_
  refine lv_iconst (v := 3) hx hb dL_law_476 (by decide) ?_
  refine lv_iadd hx hb dL_law_477 ?_
  refine xi_eq (nI (7 * j + 3)) (nI_add (7 * j) 3) ?_
  refine y_sld hx hb hX hbl hbA hS (7 * j + 3) (by omega) hL31 dL_law_478 ?_
  refine xgoI (xrunV (As := [.long p1, .int (xs (7 * j + 3))]) (rest := []) ⟨hx, hb, hml, hown, hts⟩ (mX4_known l Y (mo k) (mo_D hh) H.size G cd p1 (xs (7 * j + 3)) hlg) (cwV 2 hts (lw_V q384 q385 q386 q14 q387) rfl rfl rfl (by decide +kernel) ⟨Nat.le_of_ble_eq_true rfl, Nat.le_of_ble_eq_true rfl⟩) ⟨mPre_bl, va_recv hK hM (ci := 3) (q0 := 0) rfl rfl, fun U hU hW => ⟨rfl, by rw [hU], by rw [hU]; exact hM, hYK.moved hW.alike⟩⟩ rfl rfl hl.1 rfl (lv_room (Nat.le_of_ble_eq_true rfl)) dL_law_479 ⟨by show _ ≤ 600000; omega, by show _ ≤ 7290000; omega⟩) hS (fun q _ h => aA_new (mo_new hk0) hS.1 h) (fun q h => aA_new (mo_new hk0) hS.1 h) (fun H locs hM hz hk hS => ?_)
  have hW := wk_off hh hW hk
  refine lv_istore (lv' := [(6, .int ((knR G p1 (xs (7 * j + 3))).2)), (5, .int ((knR G p1 (xs (7 * j + 3))).1)), (4, .int (nI (7 * j))), (0, .ref b), (1, .ref (k 0)), (2, .ref (k 14)), (3, .ref (k 13))]) hx hb dL_law_482 hl (by decide) rfl (fun ls hl => ?_)
  refine lv_aload_n hx hb dL_law_484 rfl (lv_at hl 5 rfl) ?_
  refine xgoI (xrunV (As := []) (rest := []) ⟨hx, hb, hml, hown, hts⟩ (mX4_thrown l Y (mo k) (mo_D hh) H.size G (knR G p1 (xs (7 * j + 3))).1) (cwV 0 hts (lw_V q331 q332 q333 q14 q334) rfl rfl rfl (by decide +kernel) ⟨Nat.le_of_ble_eq_true rfl, Nat.le_of_ble_eq_true rfl⟩) ⟨mPre_bl, va_recv hK hM (ci := 3) (q0 := 0) rfl rfl, fun U hU hW => ⟨rfl, by rw [hU], by rw [hU]; exact hM, hYK.moved hW.alike⟩⟩ rfl rfl hl.1 rfl (lv_room (Nat.le_of_ble_eq_true rfl)) dL_law_485 ⟨by show _ ≤ 600000; omega, by show _ ≤ 7290000; omega⟩) hS (fun q _ h => aA_new (mo_new hk0) hS.1 h) (fun q h => aA_new (mo_new hk0) hS.1 h) (fun H locs hM hz hk hS => ?_)
  have hW := wk_off hh hW hk
  refine lv_iload hx hb dL_law_488 (lv_at hl 1 rfl) ?_
  refine lv_icmp_eq (tgt := 495) hx hb dL_law_490 (by decide) (fun _ => ?_) (fun h => absurd rfl h)
  refine lv_iload hx hb dL_law_495 (lv_at hl 1 rfl) ?_
  refine lv_if_ne (tgt := 512) hx hb dL_law_497 (by decide) (fun _ => ?_) (fun c0 => ?_)
  · refine lv_goto (tgt := 638) hx hb dL_law_512 (by decide) ?_
    refine W.widen (k := 20 + 2 * j + 2) (n := 40200 + 12 * j + 12) (by omega) (by omega) ?_
    exact fin _ _ _ _ _ _ _ hlg hok2 hW hM hS (lv_sub hl [2, 3, 4, 5, 6] rfl)
  · refine lv_aload_n hx hb dL_law_500 rfl (lv_at hl 6 rfl) ?_
    refine lv_iconst (v := 0) hx hb dL_law_501 (by decide) ?_
    refine y_lald hx hb hK hW 13 1 v2 rfl rfl 0 (by decide) (by decide) dL_law_502 ?_
    refine lv_iload hx hb dL_law_503 (lv_at hl 0 rfl) ?_
    refine lv_i2l (v := ((knR G p1 (xs (7 * j + 3))).2).toInt64) hx hb dL_law_505 rfl ?_
    refine W.lcmp hx hb dL_law_506 ?_
    refine lv_if_eq (tgt := 512) hx hb dL_law_507 (by decide) (fun _ => ?_) (fun h => absurd ((lg_cmp_eq _ _).mpr (hv2 c0)) h)
    refine lv_goto (tgt := 638) hx hb dL_law_512 (by decide) ?_
    refine W.widen (k := 20 + 2 * j + 2) (n := 40200 + 12 * j + 12) (by omega) (by omega) ?_
    exact fin _ _ _ _ _ _ _ hlg hok2 hW hM hS (lv_sub hl [2, 3, 4, 5, 6] rfl)
set_option maxHeartbeats 4000000 in
theorem law_5 {p : Program} {l : Launch} {e : Env} {s : State} {m : MethodId} {below : List Frame} {meth : Method} {c : Code} {b L : Nat} {xs : Nat → Int32} {Y : YT} {k : Nat → Nat} (C : LawC p l s m meth c b L xs Y k) (j : Nat) (hj : 7 * j + 7 ≤ L) (fin : lawFin p l e s m below meth c b Y k j) (G : Lg) (P : Pg) (v : Nat → Int64) (cd : Int32) (H : Heap) (locs : List Loc) (ls : Array Slot) (hlg : LogOK G) (hok : PgOK (gP G) (gN G) P) (hW : wH Y k G P v H) (hM : mH Y (mo k) G cd H) (hS : va_S (sA s.heap.size) s.heap H locs) (hl : lv_has ls 8 (lawL k b j)) :
    W p l e room_1 s m #[Value.ref b] below meth c H locs (20 + 2 * j) (40200 + 12 * j) (lw_Z below #[Value.ref b] s) (F0 m 515 ls []) := by
  obtain ⟨hx, hb, hr, hml, hown, hts, hX, hbl, hlk, hfl, hYK, hex, hh, hk0, hL⟩ := C
  have hK := hYK.1
  have hbA : ¬ sA s.heap.size b := Nat.not_le.mpr hbl
  have hL31 : L < 2 ^ 31 := Nat.lt_of_le_of_lt hL (by decide)
  refine lv_aload_n hx hb dL_law_515 rfl (lv_at hl 2 rfl) ?_
  refine lv_aload_n hx hb dL_law_516 rfl (lv_at hl 1 rfl) ?_
  refine lv_iload hx hb dL_law_517 (lv_at hl 0 rfl) ?_
  refine lv_iconst (v := 1) hx hb dL_law_519 (by decide) ?_
  refine lv_iadd hx hb dL_law_520 ?_
  refine xi_eq (nI (7 * j + 1)) (nI_add (7 * j) 1) ?_
  refine y_sld hx hb hX hbl hbA hS (7 * j + 1) (by omega) hL31 dL_law_521 ?_
  refine lv_aload_n hx hb dL_law_522 rfl (lv_at hl 1 rfl) ?_
  refine lv_iload hx hb dL_law_523 (lv_at hl 0 rfl) ?_
  refine lv_iconst (v := 2) hx hb dL_law_525 (by decide) ?_
  refine lv_iadd hx hb dL_law_526 ?_
  refine xi_eq (nI (7 * j + 2)) (nI_add (7 * j) 2) ?_
  refine y_sld hx hb hX hbl hbA hS (7 * j + 2) (by omega) hL31 dL_law_527 ?_
  refine lv_aload_n hx hb dL_law_528 rfl (lv_at hl 4 rfl) ?_
  refine xgoI (xrunSW (hh := [(0, 9, 12, 13)]) (n := 4) (As := [.ref (k 0), .int (xs (7 * j + 1)), .int (xs (7 * j + 2)), .ref (k 13)]) (rest := []) ⟨hx, hb, hml, hown, hts⟩ (mX0_batch l Y k (hh.le (by decide)) H.size G P v hfl (xs (7 * j + 1)) (xs (7 * j + 2)) hlg hok) rfl rfl (Nat.le_of_ble_eq_true rfl) (Nat.le_of_ble_eq_true rfl) (lw_SW q286 q287 q10 q288) List.mem_cons_self (by decide +kernel) ⟨wPre_bl, fun U hU hW2 => ⟨rfl, by rw [hU], by rw [hU]; exact hW, hYK.moved hW2.alike, hex.moved hW2 (by rw [hU]; exact ex_new hS)⟩⟩ rfl rfl hl.1 rfl (lv_room (Nat.le_of_ble_eq_true rfl)) dL_law_529 ⟨by show _ ≤ 600000; omega, by show _ ≤ 7290000; omega⟩) hS (fun q _ h => aA_new (le_new (by decide) hk0) hS.1 h) (fun q h => aA_new (le_new (by decide) hk0) hS.1 h) (fun H locs hp hz hk hS => ?_)
  obtain ⟨P2, v2, hok2, hv2, hW⟩ := hp
  have hM := mo_off (by decide) hh hM hk
  refine lv_istore (lv' := [(5, .int ((baR G (xs (7 * j + 1)) (xs (7 * j + 2))).1)), (4, .int (nI (7 * j))), (0, .ref b), (1, .ref (k 0)), (2, .ref (k 14)), (3, .ref (k 13))]) hx hb dL_law_532 hl (by decide) rfl (fun ls hl => ?_)
  refine lv_aload_n hx hb dL_law_534 rfl (lv_at hl 4 rfl) ?_
  refine lv_aload_n hx hb dL_law_535 rfl (lv_at hl 2 rfl) ?_
  refine lv_iload hx hb dL_law_536 (lv_at hl 1 rfl) ?_
  refine lv_iconst (v := 1) hx hb dL_law_538 (by decide) ?_
  refine lv_iadd hx hb dL_law_539 ?_
  refine xi_eq (nI (7 * j + 1)) (nI_add (7 * j) 1) ?_
  refine y_sld hx hb hX hbl hbA hS (7 * j + 1) (by omega) hL31 dL_law_540 ?_
  refine lv_aload_n hx hb dL_law_541 rfl (lv_at hl 2 rfl) ?_
  refine lv_iload hx hb dL_law_542 (lv_at hl 1 rfl) ?_
  refine lv_iconst (v := 2) hx hb dL_law_544 (by decide) ?_
  refine lv_iadd hx hb dL_law_545 ?_
  refine xi_eq (nI (7 * j + 2)) (nI_add (7 * j) 2) ?_
  refine y_sld hx hb hX hbl hbA hS (7 * j + 2) (by omega) hL31 dL_law_546 ?_
  refine xgoL (xrunV (As := [.int (xs (7 * j + 1)), .int (xs (7 * j + 2))]) (rest := []) ⟨hx, hb, hml, hown, hts⟩ (mX4_batch l Y (mo k) (mo_D hh) H.size G cd (xs (7 * j + 1)) (xs (7 * j + 2)) hlg) (cwV 2 hts (lw_V q388 q389 q390 q14 q391) rfl rfl rfl (by decide +kernel) ⟨Nat.le_of_ble_eq_true rfl, Nat.le_of_ble_eq_true rfl⟩) ⟨mPre_bl, va_recv hK hM (ci := 3) (q0 := 0) rfl rfl, fun U hU hW => ⟨rfl, by rw [hU], by rw [hU]; exact hM, hYK.moved hW.alike⟩⟩ rfl rfl hl.1 rfl (lv_room (Nat.le_of_ble_eq_true rfl)) dL_law_547 ⟨by show _ ≤ 600000; omega, by show _ ≤ 7290000; omega⟩) hS (fun q _ h => aA_new (mo_new hk0) hS.1 h) (fun q h => aA_new (mo_new hk0) hS.1 h) (fun H locs hM hz hk hS => ?_)
  have hW := wk_off hh hW hk
  refine lv_lstore (lv' := [(6, .long ((baR G (xs (7 * j + 1)) (xs (7 * j + 2))).2)), (5, .int ((baR G (xs (7 * j + 1)) (xs (7 * j + 2))).1)), (4, .int (nI (7 * j))), (0, .ref b), (1, .ref (k 0)), (2, .ref (k 14)), (3, .ref (k 13))]) hx hb dL_law_550 hl (by decide) rfl (fun ls hl => ?_)
  refine lv_aload_n hx hb dL_law_552 rfl (lv_at hl 5 rfl) ?_
  refine xgoI (xrunV (As := []) (rest := []) ⟨hx, hb, hml, hown, hts⟩ (mX4_thrown l Y (mo k) (mo_D hh) H.size G (baR G (xs (7 * j + 1)) (xs (7 * j + 2))).1) (cwV 0 hts (lw_V q331 q332 q333 q14 q334) rfl rfl rfl (by decide +kernel) ⟨Nat.le_of_ble_eq_true rfl, Nat.le_of_ble_eq_true rfl⟩) ⟨mPre_bl, va_recv hK hM (ci := 3) (q0 := 0) rfl rfl, fun U hU hW => ⟨rfl, by rw [hU], by rw [hU]; exact hM, hYK.moved hW.alike⟩⟩ rfl rfl hl.1 rfl (lv_room (Nat.le_of_ble_eq_true rfl)) dL_law_553 ⟨by show _ ≤ 600000; omega, by show _ ≤ 7290000; omega⟩) hS (fun q _ h => aA_new (mo_new hk0) hS.1 h) (fun q h => aA_new (mo_new hk0) hS.1 h) (fun H locs hM hz hk hS => ?_)
  have hW := wk_off hh hW hk
  refine lv_iload hx hb dL_law_556 (lv_at hl 1 rfl) ?_
  refine lv_icmp_eq (tgt := 563) hx hb dL_law_558 (by decide) (fun _ => ?_) (fun h => absurd rfl h)
  refine lv_iload hx hb dL_law_563 (lv_at hl 1 rfl) ?_
  refine lv_if_ne (tgt := 579) hx hb dL_law_565 (by decide) (fun _ => ?_) (fun c0 => ?_)
  · refine lv_goto (tgt := 638) hx hb dL_law_579 (by decide) ?_
    refine W.widen (k := 20 + 2 * j + 2) (n := 40200 + 12 * j + 12) (by omega) (by omega) ?_
    exact fin _ _ _ _ _ _ _ hlg hok2 hW hM hS (lv_sub hl [2, 3, 4, 5, 6] rfl)
  · refine lv_aload_n hx hb dL_law_568 rfl (lv_at hl 6 rfl) ?_
    refine lv_iconst (v := 0) hx hb dL_law_569 (by decide) ?_
    refine y_lald hx hb hK hW 13 1 v2 rfl rfl 0 (by decide) (by decide) dL_law_570 ?_
    refine lv_lload hx hb dL_law_571 (lv_at hl 0 rfl) ?_
    refine W.lcmp hx hb dL_law_573 ?_
    refine lv_if_eq (tgt := 579) hx hb dL_law_574 (by decide) (fun _ => ?_) (fun h => absurd ((lg_cmp_eq _ _).mpr (hv2 c0)) h)
    refine lv_goto (tgt := 638) hx hb dL_law_579 (by decide) ?_
    refine W.widen (k := 20 + 2 * j + 2) (n := 40200 + 12 * j + 12) (by omega) (by omega) ?_
    exact fin _ _ _ _ _ _ _ hlg hok2 hW hM hS (lv_sub hl [2, 3, 4, 5, 6] rfl)
set_option maxHeartbeats 4000000 in
theorem law_6 {p : Program} {l : Launch} {e : Env} {s : State} {m : MethodId} {below : List Frame} {meth : Method} {c : Code} {b L : Nat} {xs : Nat → Int32} {Y : YT} {k : Nat → Nat} (C : LawC p l s m meth c b L xs Y k) (j : Nat) (hj : 7 * j + 7 ≤ L) (fin : lawFin p l e s m below meth c b Y k j) (G : Lg) (P : Pg) (v : Nat → Int64) (cd : Int32) (H : Heap) (locs : List Loc) (ls : Array Slot) (hlg : LogOK G) (hok : PgOK (gP G) (gN G) P) (hW : wH Y k G P v H) (hM : mH Y (mo k) G cd H) (hS : va_S (sA s.heap.size) s.heap H locs) (hl : lv_has ls 8 (lawL k b j)) :
    W p l e room_1 s m #[Value.ref b] below meth c H locs (20 + 2 * j) (40200 + 12 * j) (lw_Z below #[Value.ref b] s) (F0 m 582 ls []) := by
  obtain ⟨hx, hb, hr, hml, hown, hts, hX, hbl, hlk, hfl, hYK, hex, hh, hk0, hL⟩ := C
  have hK := hYK.1
  have hbA : ¬ sA s.heap.size b := Nat.not_le.mpr hbl
  have hL31 : L < 2 ^ 31 := Nat.lt_of_le_of_lt hL (by decide)
  refine lv_aload_n hx hb dL_law_582 rfl (lv_at hl 2 rfl) ?_
  refine lv_aload_n hx hb dL_law_583 rfl (lv_at hl 1 rfl) ?_
  refine lv_iload hx hb dL_law_584 (lv_at hl 0 rfl) ?_
  refine lv_iconst (v := 1) hx hb dL_law_586 (by decide) ?_
  refine lv_iadd hx hb dL_law_587 ?_
  refine xi_eq (nI (7 * j + 1)) (nI_add (7 * j) 1) ?_
  refine y_sld hx hb hX hbl hbA hS (7 * j + 1) (by omega) hL31 dL_law_588 ?_
  refine lv_aload_n hx hb dL_law_589 rfl (lv_at hl 4 rfl) ?_
  refine xgoI (xrunSW (hh := [(0, 9, 12, 13)]) (n := 3) (As := [.ref (k 0), .int (xs (7 * j + 1)), .ref (k 13)]) (rest := []) ⟨hx, hb, hml, hown, hts⟩ (mX0_count l Y k (hh.le (by decide)) H.size G P v hfl (xs (7 * j + 1)) hlg hok) rfl rfl (Nat.le_of_ble_eq_true rfl) (Nat.le_of_ble_eq_true rfl) (lw_SW q293 q294 q10 q295) List.mem_cons_self (by decide +kernel) ⟨wPre_bl, fun U hU hW2 => ⟨rfl, by rw [hU], by rw [hU]; exact hW, hYK.moved hW2.alike, hex.moved hW2 (by rw [hU]; exact ex_new hS)⟩⟩ rfl rfl hl.1 rfl (lv_room (Nat.le_of_ble_eq_true rfl)) dL_law_590 ⟨by show _ ≤ 600000; omega, by show _ ≤ 7290000; omega⟩) hS (fun q _ h => aA_new (le_new (by decide) hk0) hS.1 h) (fun q h => aA_new (le_new (by decide) hk0) hS.1 h) (fun H locs hp hz hk hS => ?_)
  obtain ⟨P2, v2, hok2, hv2, hW⟩ := hp
  have hM := mo_off (by decide) hh hM hk
  refine lv_istore (lv' := [(5, .int ((coR G (xs (7 * j + 1))).1)), (4, .int (nI (7 * j))), (0, .ref b), (1, .ref (k 0)), (2, .ref (k 14)), (3, .ref (k 13))]) hx hb dL_law_593 hl (by decide) rfl (fun ls hl => ?_)
  refine lv_aload_n hx hb dL_law_595 rfl (lv_at hl 4 rfl) ?_
  refine lv_aload_n hx hb dL_law_596 rfl (lv_at hl 2 rfl) ?_
  refine lv_iload hx hb dL_law_597 (lv_at hl 1 rfl) ?_
  refine lv_iconst (v := 1) hx hb dL_law_599 (by decide) ?_
  refine lv_iadd hx hb dL_law_600 ?_
  refine xi_eq (nI (7 * j + 1)) (nI_add (7 * j) 1) ?_
  refine y_sld hx hb hX hbl hbA hS (7 * j + 1) (by omega) hL31 dL_law_601 ?_
  refine xgoI (xrunV (As := [.int (xs (7 * j + 1))]) (rest := []) ⟨hx, hb, hml, hown, hts⟩ (mX4_count l Y (mo k) (mo_D hh) H.size G cd (xs (7 * j + 1)) hlg) (cwV 1 hts (lw_V q392 q393 q394 q14 q395) rfl rfl rfl (by decide +kernel) ⟨Nat.le_of_ble_eq_true rfl, Nat.le_of_ble_eq_true rfl⟩) ⟨mPre_bl, va_recv hK hM (ci := 3) (q0 := 0) rfl rfl, fun U hU hW => ⟨rfl, by rw [hU], by rw [hU]; exact hM, hYK.moved hW.alike⟩⟩ rfl rfl hl.1 rfl (lv_room (Nat.le_of_ble_eq_true rfl)) dL_law_602 ⟨by show _ ≤ 600000; omega, by show _ ≤ 7290000; omega⟩) hS (fun q _ h => aA_new (mo_new hk0) hS.1 h) (fun q h => aA_new (mo_new hk0) hS.1 h) (fun H locs hM hz hk hS => ?_)
  have hW := wk_off hh hW hk
  refine lv_istore (lv' := [(6, .int ((coR G (xs (7 * j + 1))).2)), (5, .int ((coR G (xs (7 * j + 1))).1)), (4, .int (nI (7 * j))), (0, .ref b), (1, .ref (k 0)), (2, .ref (k 14)), (3, .ref (k 13))]) hx hb dL_law_605 hl (by decide) rfl (fun ls hl => ?_)
  refine lv_aload_n hx hb dL_law_607 rfl (lv_at hl 5 rfl) ?_
  refine xgoI (xrunV (As := []) (rest := []) ⟨hx, hb, hml, hown, hts⟩ (mX4_thrown l Y (mo k) (mo_D hh) H.size G (coR G (xs (7 * j + 1))).1) (cwV 0 hts (lw_V q331 q332 q333 q14 q334) rfl rfl rfl (by decide +kernel) ⟨Nat.le_of_ble_eq_true rfl, Nat.le_of_ble_eq_true rfl⟩) ⟨mPre_bl, va_recv hK hM (ci := 3) (q0 := 0) rfl rfl, fun U hU hW => ⟨rfl, by rw [hU], by rw [hU]; exact hM, hYK.moved hW.alike⟩⟩ rfl rfl hl.1 rfl (lv_room (Nat.le_of_ble_eq_true rfl)) dL_law_608 ⟨by show _ ≤ 600000; omega, by show _ ≤ 7290000; omega⟩) hS (fun q _ h => aA_new (mo_new hk0) hS.1 h) (fun q h => aA_new (mo_new hk0) hS.1 h) (fun H locs hM hz hk hS => ?_)
  have hW := wk_off hh hW hk
  refine lv_iload hx hb dL_law_611 (lv_at hl 1 rfl) ?_
  refine lv_icmp_eq (tgt := 618) hx hb dL_law_613 (by decide) (fun _ => ?_) (fun h => absurd rfl h)
  refine lv_iload hx hb dL_law_618 (lv_at hl 1 rfl) ?_
  refine lv_if_ne (tgt := 635) hx hb dL_law_620 (by decide) (fun _ => ?_) (fun c0 => ?_)
  · refine lv_goto (tgt := 638) hx hb dL_law_635 (by decide) ?_
    refine W.widen (k := 20 + 2 * j + 2) (n := 40200 + 12 * j + 12) (by omega) (by omega) ?_
    exact fin _ _ _ _ _ _ _ hlg hok2 hW hM hS (lv_sub hl [2, 3, 4, 5, 6] rfl)
  · refine lv_aload_n hx hb dL_law_623 rfl (lv_at hl 6 rfl) ?_
    refine lv_iconst (v := 0) hx hb dL_law_624 (by decide) ?_
    refine y_lald hx hb hK hW 13 1 v2 rfl rfl 0 (by decide) (by decide) dL_law_625 ?_
    refine lv_iload hx hb dL_law_626 (lv_at hl 0 rfl) ?_
    refine lv_i2l (v := ((coR G (xs (7 * j + 1))).2).toInt64) hx hb dL_law_628 rfl ?_
    refine W.lcmp hx hb dL_law_629 ?_
    refine lv_if_eq (tgt := 635) hx hb dL_law_630 (by decide) (fun _ => ?_) (fun h => absurd ((lg_cmp_eq _ _).mpr (hv2 c0)) h)
    refine lv_goto (tgt := 638) hx hb dL_law_635 (by decide) ?_
    refine W.widen (k := 20 + 2 * j + 2) (n := 40200 + 12 * j + 12) (by omega) (by omega) ?_
    exact fin _ _ _ _ _ _ _ hlg hok2 hW hM hS (lv_sub hl [2, 3, 4, 5, 6] rfl)
end
section
/-! THE LAW's LOOP, ITS START -/
set_option maxRecDepth 100000
theorem len7 {L j : Nat} (hL : L ≤ 3584) (hj : 7 * j ≤ L) (h : ¬ (Int32.ofNat L - 7 < nI (7 * j))) : 7 * j + 7 ≤ L := by
  have e : (Int32.ofNat L - 7).toInt = (L : Int) - 7 := by
    rw [Int32.toInt_sub, show (Int32.ofNat L).toInt = (L : Int) from nI_toInt (n := L) (by omega), show (7 : Int32).toInt = 7 by decide]
    exact Int.bmod_eq_of_le (by omega) (by omega)
  rw [Int32.lt_iff_toInt_lt, e, nI_toInt (n := 7 * j) (by omega)] at h
  omega
set_option maxHeartbeats 4000000 in
theorem law_loop {p : Program} {l : Launch} {e : Env} {s : State} {m : MethodId} {below : List Frame} {meth : Method} {c : Code} {b L : Nat} {xs : Nat → Int32} {Y : YT} {k : Nat → Nat} (C : LawC p l s m meth c b L xs Y k) :
    ∀ (n j : Nat), L - 7 * j < n → 7 * j ≤ L → ∀ (G : Lg) (P : Pg) (v : Nat → Int64) (cd : Int32) (H : Heap) (locs : List Loc) (ls : Array Slot), LogOK G → PgOK (gP G) (gN G) P → wH Y k G P v H → mH Y (mo k) G cd H → va_S (sA s.heap.size) s.heap H locs → lv_has ls 8 (lawL k b j) →
    W p l e room_1 s m #[Value.ref b] below meth c H locs (20 + 2 * j) (40200 + 12 * j) (lw_Z below #[Value.ref b] s) (F0 m 23 ls []) := by
  obtain ⟨hx, hb, hr, hml, hown, hts, hX, hbl, hlk, hfl, hYK, hex, hh, hk0, hL⟩ := id C
  have hbA : ¬ sA s.heap.size b := Nat.not_le.mpr hbl
  have hL31 : L < 2 ^ 31 := Nat.lt_of_le_of_lt hL (by decide)
  intro n
  induction n with
  | zero => intro j h; omega
  | succ n ih =>
    intro j hn hj G P v cd H locs ls hlg hok hW hM hS hl
    refine lv_iload hx hb dL_law_23 (lv_at hl 0 rfl) ?_
    refine lv_aload_n hx hb dL_law_25 rfl (lv_at hl 1 rfl) ?_
    refine va_slen hx hb hX hbl hbA hS dL_law_26 ?_
    refine lv_bipush (v := 7) hx hb dL_law_27 (by decide) ?_
    refine lv_isub hx hb dL_law_29 ?_
    refine lv_icmp_gt (tgt := 644) hx hb dL_law_30 (by decide) (fun c0 => ?_) (fun c0 => ?_)
    · refine lv_iconst (v := 1) hx hb dL_law_644 (by decide) ?_
      refine va_forget (fun q hq => hS.2.2 q hq) ?_
      refine W.widen (k := 600000) (n := 7290000) (by omega) (by omega) ?_
      exact lw_ret hx hb hr hlk dL_law_645
    · have hj7 : 7 * j + 7 ≤ L := len7 hL hj c0
      have fin : lawFin p l e s m below meth c b Y k j := by
        intro G P v cd H locs ls hlg hok hW hM hS hl
        refine lv_iinc (v := nI (7 * (j + 1))) (lv' := lawL k b (j + 1)) hx hb dL_law_638 hl (k := 0) rfl (nI_add (7 * j) 7) (by decide) rfl (fun ls hl => ?_)
        refine lv_goto (tgt := 23) hx hb dL_law_641 (by decide) ?_
        refine W.widen (k := 20 + 2 * (j + 1)) (n := 40200 + 12 * (j + 1)) (by omega) (by omega) ?_
        exact ih (j + 1) (by omega) (by omega) G P v cd H locs ls hlg hok hW hM hS hl
      refine lv_aload_n hx hb dL_law_33 rfl (lv_at hl 1 rfl) ?_
      refine lv_iload hx hb dL_law_34 (lv_at hl 0 rfl) ?_
      refine y_sld hx hb hX hbl hbA hS (7 * j) (by omega) hL31 dL_law_36 ?_
      refine lv_bipush (v := 7) hx hb dL_law_37 (by decide) ?_
      refine lv_iand hx hb dL_law_39 ?_
      rcases and7 (xs (7 * j)) with h | h | h | h | h | h | h | h
      · refine xi_eq 0 h ?_
        refine lv_tableIn (tgt := 84) hx hb dL_law_40 (by decide) (by decide) rfl (by decide) ?_
        exact law_0 C j hj7 fin G P v cd H locs ls hlg hok hW hM hS hl
      · refine xi_eq 1 h ?_
        refine lv_tableIn (tgt := 208) hx hb dL_law_40 (by decide) (by decide) rfl (by decide) ?_
        exact law_1 C j hj7 fin G P v cd H locs ls hlg hok hW hM hS hl
      · refine xi_eq 2 h ?_
        refine lv_tableIn (tgt := 346) hx hb dL_law_40 (by decide) (by decide) rfl (by decide) ?_
        exact law_2 C j hj7 fin G P v cd H locs ls hlg hok hW hM hS hl
      · refine xi_eq 3 h ?_
        refine lv_tableIn (tgt := 402) hx hb dL_law_40 (by decide) (by decide) rfl (by decide) ?_
        exact law_3 C j hj7 fin G P v cd H locs ls hlg hok hW hM hS hl
      · refine xi_eq 4 h ?_
        refine lv_tableIn (tgt := 415) hx hb dL_law_40 (by decide) (by decide) rfl (by decide) ?_
        exact law_4 C j hj7 fin G P v cd H locs ls hlg hok hW hM hS hl
      · refine xi_eq 5 h ?_
        refine lv_tableIn (tgt := 515) hx hb dL_law_40 (by decide) (by decide) rfl (by decide) ?_
        exact law_5 C j hj7 fin G P v cd H locs ls hlg hok hW hM hS hl
      · refine xi_eq 6 h ?_
        refine lv_tableIn (tgt := 582) hx hb dL_law_40 (by decide) (by decide) rfl (by decide) ?_
        exact law_6 C j hj7 fin G P v cd H locs ls hlg hok hW hM hS hl
      · refine xi_eq 7 h ?_
        refine lv_tableOut (tgt := 638) hx hb dL_law_40 (Or.inr (by decide)) (by decide) ?_
        refine W.widen (k := 20 + 2 * j + 2) (n := 40200 + 12 * j + 12) (by omega) (by omega) ?_
        exact fin G P v cd H locs ls hlg hok hW hM hS hl
abbrev xM (a : Nat) : Nat × va_E := (a, .inr (3, [.int 0, .int 0, .int 0, .null, .null, .null, .null, .null]))
set_option maxHeartbeats 4000000 in
/-- from the entry, for every script of at most 3584 ints, the law comes to its end with true -/
theorem whole_start {p : Program} {e : Env} {s : State} {m : MethodId} {below : List Frame} {meth : Method} {c : Code} (l : Launch) (hfl : l.flags = flags0) {b L : Nat} {xs : Nat → Int32} (hL : L ≤ 3584) (C0 : lw_At p s m meth c b L xs) : W p l e room_1 s m #[Value.ref b] below meth c s.heap [] 0 0 (lw_Z below #[Value.ref b] s) (entryFrame m ([Value.ref b] : List Value).toArray 8) := by
  obtain ⟨hx, hb, hr, hml, hown, htb, hX, hbl, hlk, hgv⟩ := C0
  have hts : ∀ w ∈ lw_all, w.before #[Value.ref b] s = true := fun w h => htb w (lw_all_tbl h)
  obtain ⟨Y, hYK, hex, hNw⟩ := start_Y htb hgv
  have hK := hYK.1
  have hS : va_S (sA s.heap.size) s.heap s.heap [] := va_S.rf
  have hA : ∀ q, s.heap.size ≤ q → sA s.heap.size q := fun _ h => h
  have hl := lv_entry [.ref b] (n := 8) (Nat.le_of_ble_eq_true rfl)
  rw [lg_entry_eq]
  generalize (lg_sl [.ref b] ++ List.replicate (8 - (lg_sl [.ref b]).length) Slot.unset).toArray = ls at hl ⊢
  have hl : lv_has ls 8 [(0, .ref b)] := hl
  have hP : va_P Y.1 vwCl [] s.heap := fun k q h => by cases h
  have hD : va_D (sA s.heap.size) [] := ⟨fun i j p q h => (by cases h), fun k q h => (by cases h)⟩
  refine va_new (ci := 0) (fs := [.null, .null]) (C := RX1) (T := TX1) (N := 2) hx hb hts in_X1 tyX1 tyX1_ok hown (hts _ q21) (hts _ q22) (hts _ q11) hK hP hD hS hA rfl (fun j hj => by rcases (show j = 0 ∨ j = 1 by omega) with rfl | rfl <;> rfl) (Nat.le_of_ble_eq_true rfl) (Nat.le_of_ble_eq_true rfl) dL_law_0 (fun x H hP hD hS => ?_)
  have hP : va_P Y.1 vwCl [xB x] H := hP
  have hD : va_D (sA s.heap.size) [xB x] := hD
  have hxn : s.heap.size ≤ x := hD.2 0 _ rfl
  refine lv_dup hx hb dL_law_3 rfl ?_
  have hFc := va_free (wc := [xB x]) hD hS hA [0] rfl
  refine xgoV (xrunI (As := []) (rest := [.ref x]) ⟨hx, hb, hml, hown, hts⟩ (mX1_init l Y x H.size) (cwI 0 hts (lw_meth q25) rfl rfl rfl (hts _ q11) (hts _ q23) (hts _ q24) rfl (by decide +kernel) ⟨Nat.le_of_ble_eq_true rfl, Nat.le_of_ble_eq_true rfl⟩) ⟨iPreN_bl, fun U hU hW => ⟨rfl, by rw [hU], by rw [hU]; exact hP, hYK.moved hW.alike, va_Nw.warmM hW hNw⟩⟩ rfl rfl hl.1 rfl (lv_room (Nat.le_of_ble_eq_true rfl)) dL_law_4 ⟨Nat.le_of_ble_eq_true rfl, Nat.le_of_ble_eq_true rfl⟩) hS (fun q _ h => hFc q h) hFc (fun H1 locs hp hz hk hS1 => ?_)
  obtain ⟨h, h0, hhB, hnB, hPB⟩ := hp
  subst h0
  have hD : va_D (sA s.heap.size) (bk Y h lg0 pg0) := by
    refine ⟨(bk_D (sz := 0) hhB).1, fun i q hq => ?_⟩
    obtain ⟨h1, h2⟩ := at_of (N := 13) (h := h) rfl hq
    rw [h2]
    cases i with
    | zero => exact hxn
    | succ i => exact Nat.le_trans hS.1 (hnB (i + 1) (by omega) h1)
  have hS := hS1
  have hP := hPB
  generalize H1 = H at hP hS ⊢
  refine lv_astore_n (lv' := [(1, .ref (h 0)), (0, .ref b)]) hx hb dL_law_7 rfl hl (by decide) rfl (fun ls hl => ?_)
  refine va_new (ci := 3) (fs := [.int 0, .int 0, .int 0, .null, .null, .null, .null, .null]) (C := RX4) (T := TX4) (N := 8) hx hb hts in_X4 tyX4 tyX4_ok hown (hts _ q300) (hts _ q301) (hts _ q14) hK hP hD hS hA rfl (fun j hj => by rcases (show j = 0 ∨ j = 1 ∨ j = 2 ∨ j = 3 ∨ j = 4 ∨ j = 5 ∨ j = 6 ∨ j = 7 by omega) with rfl | rfl | rfl | rfl | rfl | rfl | rfl | rfl <;> rfl) (Nat.le_of_ble_eq_true rfl) (Nat.le_of_ble_eq_true rfl) dL_law_8 (fun y H hP hD hS => ?_)
  refine lv_dup hx hb dL_law_11 rfl ?_
  have hPc := hP.sub (ws' := [xM y]) [13] rfl
  have hFc := va_free (wc := [xM y]) hD hS hA [13] rfl
  refine xgoV (xrunI (As := []) (rest := [.ref y]) ⟨hx, hb, hml, hown, hts⟩ (mX4_init l Y y H.size) (cwI 0 hts (lw_meth q304) rfl rfl rfl (hts _ q14) (hts _ q302) (hts _ q303) rfl (by decide +kernel) ⟨Nat.le_of_ble_eq_true rfl, Nat.le_of_ble_eq_true rfl⟩) ⟨iPre_bl, fun U hU hW => ⟨rfl, by rw [hU], by rw [hU]; exact hPc, hYK.moved hW.alike⟩⟩ rfl rfl hl.1 rfl (lv_room (Nat.le_of_ble_eq_true rfl)) dL_law_12 ⟨Nat.le_of_ble_eq_true rfl, Nat.le_of_ble_eq_true rfl⟩) hS (fun q _ h => hFc q h) hFc (fun H1 locs hp hz hk hS => ?_)
  obtain ⟨y1, y2, y3, y4, y5, hD1, hP1⟩ := hp
  obtain ⟨hP, hD⟩ := va_join (wr := bk Y h lg0 pg0) hP hD [13] [0, 1, 2, 3, 4, 5, 6, 7, 8, 9, 10, 11, 12] rfl rfl (by decide) (by decide) hk hFc hP1 hD1
  generalize H1 = H at hP hS ⊢
  refine lv_astore_n (lv' := [(2, .ref y), (1, .ref (h 0)), (0, .ref b)]) hx hb dL_law_15 rfl hl (by decide) rfl (fun ls hl => ?_)
  refine lv_iconst (v := 1) hx hb dL_law_16 (by decide) ?_
  refine y_newa (atype := .long) (ty := .long) hx hb (hts _ q72) rfl (by intro C; exact nofun) hK hP hD hS hA 1 rfl (N' := 1) (a0 := (1, .inr (.inl Z64))) (fun _ => rfl) (by decide) (by decide) (by decide) (Nat.le_of_ble_eq_true rfl) (Nat.le_of_ble_eq_true rfl) dL_law_17 (fun o H hP hD hS => ?_)
  refine lv_astore_n (lv' := [(3, .ref o), (2, .ref y), (1, .ref (h 0)), (0, .ref b)]) hx hb dL_law_19 rfl hl (by decide) rfl (fun ls hl => ?_)
  refine lv_iconst (v := 0) hx hb dL_law_20 (by decide) ?_
  refine lv_istore (lv' := [(4, .int 0), (3, .ref o), (2, .ref y), (1, .ref (h 0)), (0, .ref b)]) hx hb dL_law_21 hl (by decide) rfl (fun ls hl => ?_)
  have hD2 : va_D (sA s.heap.size) (wk Y (fun i => [h 0, h 1, h 2, h 3, h 4, h 5, h 6, h 7, h 8, h 9, h 10, h 11, h 12, o, y, y1, y2, y3, y4, y5].getD i 0) lg0 pg0 Z64 ++ md Y (mo (fun i => [h 0, h 1, h 2, h 3, h 4, h 5, h 6, h 7, h 8, h 9, h 10, h 11, h 12, o, y, y1, y2, y3, y4, y5].getD i 0)) lg0 0) := hD.sub [0, 1, 2, 3, 4, 5, 6, 7, 8, 9, 10, 11, 12, 19, 13, 14, 15, 16, 17, 18] (by decide) rfl
  have hW : wH Y (fun i => [h 0, h 1, h 2, h 3, h 4, h 5, h 6, h 7, h 8, h 9, h 10, h 11, h 12, o, y, y1, y2, y3, y4, y5].getD i 0) lg0 pg0 Z64 H := hP.sub [0, 1, 2, 3, 4, 5, 6, 7, 8, 9, 10, 11, 12, 19] rfl
  have hM : mH Y (mo (fun i => [h 0, h 1, h 2, h 3, h 4, h 5, h 6, h 7, h 8, h 9, h 10, h 11, h 12, o, y, y1, y2, y3, y4, y5].getD i 0)) lg0 0 H := hP.sub [13, 14, 15, 16, 17, 18] rfl
  have hmap : (wk Y (fun i => [h 0, h 1, h 2, h 3, h 4, h 5, h 6, h 7, h 8, h 9, h 10, h 11, h 12, o, y, y1, y2, y3, y4, y5].getD i 0) lg0 pg0 Z64 ++ md Y (mo (fun i => [h 0, h 1, h 2, h 3, h 4, h 5, h 6, h 7, h 8, h 9, h 10, h 11, h 12, o, y, y1, y2, y3, y4, y5].getD i 0)) lg0 0).map (fun q => q.1) = (List.range 20).map (fun i => [h 0, h 1, h 2, h 3, h 4, h 5, h 6, h 7, h 8, h 9, h 10, h 11, h 12, o, y, y1, y2, y3, y4, y5].getD i 0) := rfl
  have hh20 := aD_of hD2 hmap
  have hnew : ∀ i, i < 20 → s.heap.size ≤ (fun i => [h 0, h 1, h 2, h 3, h 4, h 5, h 6, h 7, h 8, h 9, h 10, h 11, h 12, o, y, y1, y2, y3, y4, y5].getD i 0) i := by
    intro i hi
    obtain ⟨z, hz⟩ : ∃ z, (wk Y (fun i => [h 0, h 1, h 2, h 3, h 4, h 5, h 6, h 7, h 8, h 9, h 10, h 11, h 12, o, y, y1, y2, y3, y4, y5].getD i 0) lg0 pg0 Z64 ++ md Y (mo (fun i => [h 0, h 1, h 2, h 3, h 4, h 5, h 6, h 7, h 8, h 9, h 10, h 11, h 12, o, y, y1, y2, y3, y4, y5].getD i 0)) lg0 0)[i]? = some z := ⟨_, List.getElem?_eq_getElem (by show i < 20; exact hi)⟩
    exact Nat.le_trans (hD2.2 i z hz) (Nat.le_of_eq (at_of hmap hz).2)
  have hl2 : lv_has ls 8 (lawL (fun i => [h 0, h 1, h 2, h 3, h 4, h 5, h 6, h 7, h 8, h 9, h 10, h 11, h 12, o, y, y1, y2, y3, y4, y5].getD i 0) b 0) := lv_sub hl [0, 4, 3, 2, 1] rfl
  refine W.widen (k := 20 + 2 * 0) (n := 40200 + 12 * 0) (by decide) (by decide) ?_
  exact law_loop ⟨hx, hb, hr, hml, hown, hts, hX, hbl, hlk, hfl, hYK, hex, hh20, hnew, hL⟩ (L + 1) 0 (by omega) (by omega) lg0 pg0 Z64 0 H _ ls log_0 (pg_0 rfl (fun _ _ => rfl)) hW hM hS hl2
end
section
set_option maxHeartbeats 4000000 in
theorem lw_walk (l : Launch) (hfl : l.flags = flags0) (b : Addr) (xs : List Int32) : MetFree l x (headSpec (Jvm.Cond.code x code maxLocals ret :: tables_1) room_1) (lw_P b xs) (fun _ _ _ _ _ => True) lw_Q := by
  refine MetFree.of_bodyS (code := code) (maxLocals := maxLocals) (ret := ret) (by decide) ?_ ?_
  · intro args s m h hn
    obtain ⟨meth, c, h1, h2, h3, h4, h5, h6, -, -⟩ := Cond.code_spec hn (atoms_spec (ws := Jvm.Cond.code x code maxLocals ret :: tables_1) h _ List.mem_cons_self)
    exact ⟨meth, c, h1, h2, h3, h4, h5, h6⟩
  · intro p e s m args below meth c s₁ B hml0 hP _
    obtain ⟨rfl, hx, hbd, hgv⟩ := hP
    obtain ⟨scr, harrAt, hlist, hof, hsmall⟩ := hx
    obtain ⟨hcb, hkn, -, -⟩ := State.arrayAt?_spec harrAt
    have hown : s.vm.findClass R_law = some m.cls := findClass_of_methodNamed B.named
    have hts0 : ∀ c ∈ (Jvm.Cond.code x code maxLocals ret :: tables_1), c.before #[Value.ref b] s = true := atoms_spec (ws := Jvm.Cond.code x code maxLocals ret :: tables_1) B.pre
    have hts : ∀ w ∈ lw_tbl, w.before #[Value.ref b] s = true := k2_hts_sels lw_privs (fun w hw => hts0 w (List.mem_cons_of_mem _ hw)) lw_privs_ok
    have hml : c.maxLocals = 8 := B.maxLocals_eq (hts0 _ List.mem_cons_self)
    have X₀ : Stand p l e room_1 s m #[Value.ref b] below meth c s₁ [] 0 0 := Stand.of_body B
    have hh0 : s₁.heap = s.heap := by rw [B.state]; rfl
    have hsz : scr.slots.size = xs.length := by rw [← Array.length_toList, hlist, List.length_map]
    have hval : ∀ j : Nat, j < xs.length → scr.slots[j]? = some (.int (xs.getD j 0)) := fun j hj => by
      rw [← Array.getElem?_toList, hlist]
      simp [hj]
    have hbl : b < s.heap.size := (Array.getElem?_eq_some_iff.mp hcb).1
    have hX : va_X b xs.length (fun j => xs.getD j 0) s s.heap := ⟨scr, hcb, hof, hkn, hsz, hval⟩
    have K : W p l e room_1 s m #[Value.ref b] below meth c s₁.heap [] 0 0 (lw_Z below #[Value.ref b] s) (entryFrame m ([Value.ref b] : List Value).toArray 8) := by
      rw [hh0]
      exact whole_start l hfl hbd ⟨B.exec, B.bytes, B.returns, hml, hown, hts, hX, hbl, B.notSynchronized, hgv⟩
    obtain ⟨t, a1, o, b1, b2, b3⟩ := K s₁ rfl X₀
    exact ⟨t, o, a1, b1, b2, b3⟩
theorem lw_pre_spec {args : Array Value} {s : State} (h : (Jvm.Cond.and given_1 narrow_1).before args s = true) (hr : rest_1_c.before args s = true) : ∃ (b : Addr) (xs : List Int32), lw_P b xs args s := by
  have hs := flat_of_before _ h
  have hq := flat_of_before _ hr
  have hc : (Cond.count 1).before args s = true := hs _ (by decide +kernel)
  have harr : (Cond.arrayOf (.arg 0) .int).before args s = true := hs _ (by decide +kernel)
  have hle : (Cond.le (.length (.arg 0)) (.int 3584)).before args s = true := hs _ (by decide +kernel)
  have hlen : (Cond.isInt (.length (.arg 0))).before args s = true := hq _ (by decide +kernel)
  have hall : (Cond.all (.arg 0) (.isInt (.elem (.arg 0) (.index 0)))).before args s = true := hq _ (by decide +kernel)
  obtain ⟨b, xs, hb, hx⟩ := State.ints_of_pre rfl harr hlen hall
  have hsm : xs.length < 2 ^ 31 := hx.choose_spec.2.2.2
  have hev : (Term.length (.arg 0)).eval args s none [] s = some (.int xs.length.toInt32) := hx.length_eval hb
  have hv := Cond.le_ints hev (show (Term.int 3584).eval args s none [] s = some (.int 3584) from rfl)
  have hd : xs.length.toInt32 ≤ 3584 := by
    simpa [Cond.before, Cond.holds, hv] using hle
  have hN : xs.length ≤ 3584 := (Int32.ofNat_le_ofNat hsm (by decide)).mp (show Int32.ofNat xs.length ≤ Int32.ofNat 3584 from hd)
  exact ⟨b, xs, Cond.one_arg hc (show args[0]? = some (.ref b) from hb), hx, hN, h⟩
theorem lw_comes (l : Launch) (hfl : l.flags = flags0) : Comes l x (Jvm.Cond.code x code maxLocals ret :: tables_1) room_1 (fun tb e args s => Calls_1 tb e args s ∧ rest_1 tb e args s ∧ Pre_1 tb e args s)
    (fun _ _ args s o t => lw_Q args s o t) := by
  intro p e ha hc hk s m args below hf hfit hheap happ hpre
  obtain ⟨b, xs, hP⟩ := lw_pre_spec hpre.2.2 hpre.2.1
  obtain ⟨k, o, h1, h2, h3, hQ⟩ := lw_walk l hfl b xs p e ha hc hk s m args below hf ((Spec.applies_iff_loose hf).mp happ).1 hP trivial
  exact ⟨k, o, h1, h2, h3, hQ⟩
theorem lw_frame {s t : State} {o : Outcome} {args : Array Value} (h : Framed s o t [] 600000 7290000) :
    Framed s o t (fieldLocs frame_1_writes args s ++ arrayLocs frame_1_arrays args s ++ staticLocs frame_1_statics s) 600000 7290000 := h
theorem lw_limb (L : Cond) (hL : ∀ (args : Array Value) (s t : State), L.after args s (.returned (some (.int 1))) t = true) :
    ArmFor flags0 classFile x code maxLocals ret World_1 tables_1 room_1 Calls_1 rest_1 Pre_1
      (fun tb e a s o t => postC L tb e a s o t ∧ Framed s o t (fieldLocs frame_1_writes a s ++ arrayLocs frame_1_arrays a s ++ staticLocs frame_1_statics s) 600000 7290000) := by
  intro l hfl _ _ p e ha hc hk s m args below hf hfit hheap happ hpre
  obtain ⟨k, o, h1, h2, h3, rfl, hF⟩ := lw_comes l hfl p e ha hc hk s m args below hf hfit hheap happ hpre
  exact ⟨k, _, h1, h2, h3, hL args s _, lw_frame hF⟩
theorem i_vc : Claimed_1_1 ∧ Claimed_1_2 := ⟨lw_limb limb_1_1 (fun args s t => by simp [limb_1_1, Cond.after, Cond.holds, Cond.value]), lw_limb limb_1_2 (fun args s t => Cond.after_iff.mpr (by
  first | (rw [show limb_1_2 = Cond.eq .result (.int 1) from rfl, Cond.eq_ints (x := 1) (y := 1) rfl rfl]; simp; done) | (simp [limb_1_2, Cond.value, Term.eval]; done)))⟩
end
