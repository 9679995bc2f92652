section
-- ===== PART A: goes FIRST, ahead of the names: the tables' words, and 'selects' of the private methods out of them =====
/-- a private method of a class that the tables say can be made, by its rows of tables_1 -/
def lw_okq (q : MethodName × Nat) : Prop := (q.1.cls ≠ "java/lang/invoke/MethodHandle" ∧ q.1.cls ≠ "java/lang/invoke/VarHandle") ∧ Cond.instantiable q.1.cls q.2 ∈ tables_1 ∧ Cond.privateMethod q.1 ∈ tables_1 ∧ Cond.instanceMethod q.1 ∈ tables_1
set_option maxRecDepth 100000
theorem lw_t1 {w : Cond} (h : w ∈ tables_1_1) : w ∈ tables_1 := List.mem_append_left _ h
theorem lw_t2 {w : Cond} (h : w ∈ tables_1_2) : w ∈ tables_1 := List.mem_append_right _ h
theorem lw_p0 : lw_okq (⟨"WeaveStore", "isVersion", "(I)Z"⟩, 8) := ⟨⟨by decide +kernel, by decide +kernel⟩, lw_t1 (List.mem_of_getElem? (i := 4) rfl), lw_t1 (List.mem_of_getElem? (i := 43) rfl), lw_t1 (List.mem_of_getElem? (i := 44) rfl)⟩
theorem lw_p1 : lw_okq (⟨"WeaveStore", "sweep", "()V"⟩, 8) := ⟨⟨by decide +kernel, by decide +kernel⟩, lw_t1 (List.mem_of_getElem? (i := 4) rfl), lw_t1 (List.mem_of_getElem? (i := 47) rfl), lw_t1 (List.mem_of_getElem? (i := 48) rfl)⟩
theorem lw_p2 : lw_okq (⟨"WeaveStore", "lengthOf", "(I)I"⟩, 8) := ⟨⟨by decide +kernel, by decide +kernel⟩, lw_t1 (List.mem_of_getElem? (i := 4) rfl), lw_t1 (List.mem_of_getElem? (i := 51) rfl), lw_t1 (List.mem_of_getElem? (i := 52) rfl)⟩
theorem lw_p3 : lw_okq (⟨"WeaveStore", "shows", "(II)Z"⟩, 8) := ⟨⟨by decide +kernel, by decide +kernel⟩, lw_t1 (List.mem_of_getElem? (i := 4) rfl), lw_t1 (List.mem_of_getElem? (i := 55) rfl), lw_t1 (List.mem_of_getElem? (i := 56) rfl)⟩
theorem lw_p4 : lw_okq (⟨"WeaveStore", "find", "(II)I"⟩, 8) := ⟨⟨by decide +kernel, by decide +kernel⟩, lw_t1 (List.mem_of_getElem? (i := 4) rfl), lw_t1 (List.mem_of_getElem? (i := 63) rfl), lw_t1 (List.mem_of_getElem? (i := 64) rfl)⟩
theorem lw_p5 : lw_okq (⟨"WeaveStore", "insert", "(II)V"⟩, 8) := ⟨⟨by decide +kernel, by decide +kernel⟩, lw_t1 (List.mem_of_getElem? (i := 4) rfl), lw_t1 (List.mem_of_getElem? (i := 67) rfl), lw_t1 (List.mem_of_getElem? (i := 68) rfl)⟩
theorem lw_p6 : lw_okq (⟨"WeaveStore", "lineAt", "(II)I"⟩, 8) := ⟨⟨by decide +kernel, by decide +kernel⟩, lw_t1 (List.mem_of_getElem? (i := 4) rfl), lw_t1 (List.mem_of_getElem? (i := 95) rfl), lw_t1 (List.mem_of_getElem? (i := 96) rfl)⟩
theorem lw_p7 : lw_okq (⟨"WeaveStoreModel", "version", "(I)Z"⟩, 12) := ⟨⟨by decide +kernel, by decide +kernel⟩, lw_t1 (List.mem_of_getElem? (i := 127) rfl), lw_t1 (List.mem_of_getElem? (i := 175) rfl), lw_t1 (List.mem_of_getElem? (i := 176) rfl)⟩
theorem lw_p8 : lw_okq (⟨"WeaveStoreModel", "at", "(II)I"⟩, 12) := ⟨⟨by decide +kernel, by decide +kernel⟩, lw_t1 (List.mem_of_getElem? (i := 127) rfl), lw_t1 (List.mem_of_getElem? (i := 208) rfl), lw_t1 (List.mem_of_getElem? (i := 209) rfl)⟩
theorem lw_p9 : lw_okq (⟨"WeaveStoreModel", "find", "(II)I"⟩, 12) := ⟨⟨by decide +kernel, by decide +kernel⟩, lw_t1 (List.mem_of_getElem? (i := 127) rfl), lw_t1 (List.mem_of_getElem? (i := 228) rfl), lw_t1 (List.mem_of_getElem? (i := 229) rfl)⟩
def lw_privs_1 : List (MethodName × Nat) := [(⟨"WeaveStore", "isVersion", "(I)Z"⟩, 8), (⟨"WeaveStore", "sweep", "()V"⟩, 8), (⟨"WeaveStore", "lengthOf", "(I)I"⟩, 8), (⟨"WeaveStore", "shows", "(II)Z"⟩, 8), (⟨"WeaveStore", "find", "(II)I"⟩, 8), (⟨"WeaveStore", "insert", "(II)V"⟩, 8), (⟨"WeaveStore", "lineAt", "(II)I"⟩, 8), (⟨"WeaveStoreModel", "version", "(I)Z"⟩, 12), (⟨"WeaveStoreModel", "at", "(II)I"⟩, 12), (⟨"WeaveStoreModel", "find", "(II)I"⟩, 12)]
theorem lw_r1 : ∀ q ∈ lw_privs_1, lw_okq q := List.forall_mem_cons.mpr ⟨lw_p0, List.forall_mem_cons.mpr ⟨lw_p1, List.forall_mem_cons.mpr ⟨lw_p2, List.forall_mem_cons.mpr ⟨lw_p3, List.forall_mem_cons.mpr ⟨lw_p4, List.forall_mem_cons.mpr ⟨lw_p5, List.forall_mem_cons.mpr ⟨lw_p6, List.forall_mem_cons.mpr ⟨lw_p7, List.forall_mem_cons.mpr ⟨lw_p8, List.forall_mem_cons.mpr ⟨lw_p9, fun _ h => absurd h List.not_mem_nil⟩⟩⟩⟩⟩⟩⟩⟩⟩⟩
def lw_privs : List (MethodName × Nat) := lw_privs_1
def lw_tbl : List Cond := k2_sels lw_privs ++ tables_1
theorem lw_privs_ok : ∀ q ∈ lw_privs, lw_okq q := lw_r1
-- ===== ONE list of words for every method: the tables' words that hold all through a run =====
def lw_all : List Cond := lw_tbl.filter goodWord
/-- a word of the tables by its place: claim/WORDS.tsv -/
theorem lw_w {w : Cond} (i : Nat) (h : lw_tbl[i]? = some w) (g : goodWord w = true) : w ∈ lw_all := List.mem_filter.mpr ⟨List.mem_of_getElem? h, g⟩
theorem lw_all_tbl {w : Cond} (h : w ∈ lw_all) : w ∈ lw_tbl := (List.mem_filter.mp h).1
theorem lw_self : GoodIn lw_all lw_all := fun w h => ⟨h, good_of_word (List.mem_filter.mp h).2⟩
/-- a class's field words, by their places -/
theorem lw_in (ws : List Cond) (ps : List Nat) (hp : ws = ps.filterMap (fun i => lw_tbl[i]?)) (hg : ws.all goodWord = true) : ∀ w ∈ ws, w ∈ lw_all := by
  intro w h
  have h1 := List.all_eq_true.mp hg w h
  rw [hp] at h
  obtain ⟨i, -, hi⟩ := List.mem_filterMap.mp h
  exact lw_w i hi h1
/-- the words of a contract for the method y with code b, L locals, answer r -/
abbrev ws_ (y : MethodName) (b : ByteArray) (L : Nat) (r : Option FieldType) : List Cond := Cond.code y b L r :: lw_all
theorem lw_meth {y : MethodName} {b : ByteArray} {L : Nat} {r : Option FieldType} (h : Cond.code y b L r ∈ lw_all) : GoodIn lw_all (ws_ y b L r) := by
  intro w hw
  rcases List.mem_cons.mp hw with e | e
  · rw [e]
    exact lw_self _ h
  · exact lw_self _ e
theorem lw_app {a c : List Cond} (ha : ∀ w ∈ a, w ∈ lw_all) (hc : GoodIn lw_all c) : GoodIn lw_all (a ++ c) := by
  intro w hw
  rcases List.mem_append.mp hw with e | e
  · exact lw_self w (ha w e)
  · exact hc w e
/-- what a call through an object asks: cwV n hts (lw_V ..) -/
theorem lw_V {own : String} {idx : Nat} {C : String} {y : MethodName} {b : ByteArray} {L : Nat} {r : Option FieldType} (h1 : Cond.methodLink own idx y ∈ lw_all) (h2 : Cond.instanceMethod y ∈ lw_all) (h3 : Cond.selects C y y ∈ lw_all) (h4 : Cond.initialized C ∈ lw_all) (h5 : Cond.code y b L r ∈ lw_all) : GoodIn lw_all (wsV own idx C y (ws_ y b L r)) := by
  refine lw_app ?_ (lw_meth h5)
  intro w hw
  simp only [List.mem_cons, List.not_mem_nil, or_false] at hw
  rcases hw with e | e | e | e
  · rw [e]; exact h1
  · rw [e]; exact h2
  · rw [e]; exact h3
  · rw [e]; exact h4
/-- what a static call asks: va_cwS n hts (lw_S ..) -/
theorem lw_S {own : String} {idx : Nat} {y : MethodName} {b : ByteArray} {L : Nat} {r : Option FieldType} (h1 : Cond.methodLink own idx y ∈ lw_all) (h2 : Cond.static y ∈ lw_all) (h3 : Cond.initialized y.cls ∈ lw_all) (h4 : Cond.code y b L r ∈ lw_all) : GoodIn lw_all (va_wsS own idx y (ws_ y b L r)) := by
  refine lw_app ?_ (lw_meth h4)
  intro w hw
  simp only [List.mem_cons, List.not_mem_nil, or_false] at hw
  rcases hw with e | e | e
  · rw [e]; exact h1
  · rw [e]; exact h2
  · rw [e]; exact h3
/-- the words of a contract for a method WITH HANDLERS (hh: its table) -/
abbrev wsW_ (y : MethodName) (b : ByteArray) (L : Nat) (r : Option FieldType) (hh : List (Nat × Nat × Nat × Nat)) : List Cond := Cond.codeWith y b L r hh :: lw_all
theorem lw_methW {y : MethodName} {b : ByteArray} {L : Nat} {r : Option FieldType} {hh : List (Nat × Nat × Nat × Nat)} (h : Cond.codeWith y b L r hh ∈ lw_all) : GoodIn lw_all (wsW_ y b L r hh) := by
  intro w hw
  rcases List.mem_cons.mp hw with e | e
  · rw [e]
    exact lw_self _ h
  · exact lw_self _ e
/-- any list of words by their places (lw_in), good -/
theorem lw_good {ws : List Cond} (h : ∀ w ∈ ws, w ∈ lw_all) : GoodIn lw_all ws := fun w hw => lw_self w (h w hw)
/-- what a call of a method with handlers asks: vx_cwVW n hts (lw_VW ..), vx_cwSW n hts (lw_SW ..) -/
theorem lw_VW {own : String} {idx : Nat} {C : String} {y : MethodName} {b : ByteArray} {L : Nat} {r : Option FieldType} {hh : List (Nat × Nat × Nat × Nat)} (h1 : Cond.methodLink own idx y ∈ lw_all) (h2 : Cond.instanceMethod y ∈ lw_all) (h3 : Cond.selects C y y ∈ lw_all) (h4 : Cond.initialized C ∈ lw_all) (h5 : Cond.codeWith y b L r hh ∈ lw_all) : GoodIn lw_all (wsV own idx C y (wsW_ y b L r hh)) := by
  refine lw_app ?_ (lw_methW h5)
  intro w hw
  simp only [List.mem_cons, List.not_mem_nil, or_false] at hw
  rcases hw with e | e | e | e
  · rw [e]; exact h1
  · rw [e]; exact h2
  · rw [e]; exact h3
  · rw [e]; exact h4
theorem lw_SW {own : String} {idx : Nat} {y : MethodName} {b : ByteArray} {L : Nat} {r : Option FieldType} {hh : List (Nat × Nat × Nat × Nat)} (h1 : Cond.methodLink own idx y ∈ lw_all) (h2 : Cond.static y ∈ lw_all) (h3 : Cond.initialized y.cls ∈ lw_all) (h4 : Cond.codeWith y b L r hh ∈ lw_all) : GoodIn lw_all (va_wsS own idx y (wsW_ y b L r hh)) := by
  refine lw_app ?_ (lw_methW h4)
  intro w hw
  simp only [List.mem_cons, List.not_mem_nil, or_false] at hw
  rcases hw with e | e | e
  · rw [e]; exact h1
  · rw [e]; exact h2
  · rw [e]; exact h3
/-- a word by its place in its run of the tables -/
theorem lw_at {r : List Cond} (hr : ∀ w ∈ r, w ∈ lw_tbl) {w : Cond} (i : Nat) (h : r[i]? = some w) : w ∈ lw_tbl := hr w (List.mem_of_getElem? h)
theorem lw_g {w : Cond} (h : w ∈ lw_tbl) (g : goodWord w = true) : w ∈ lw_all := List.mem_filter.mpr ⟨h, g⟩
theorem lw_ms : ∀ w ∈ k2_sels lw_privs, w ∈ lw_tbl := fun w h => show w ∈ k2_sels lw_privs ++ tables_1 from List.mem_append_left _ h
theorem lw_m1 : ∀ w ∈ tables_1_1, w ∈ lw_tbl := fun w h => show w ∈ k2_sels lw_privs ++ tables_1 from List.mem_append_right (k2_sels lw_privs) (show w ∈ tables_1 from List.mem_append_left _ h)
theorem lw_m2 : ∀ w ∈ tables_1_2, w ∈ lw_tbl := fun w h => show w ∈ k2_sels lw_privs ++ tables_1 from List.mem_append_right (k2_sels lw_privs) (show w ∈ tables_1 from List.mem_append_right _ h)
theorem qs0 : (Cond.selects "WeaveStore" ⟨"WeaveStore", "isVersion", "(I)Z"⟩ ⟨"WeaveStore", "isVersion", "(I)Z"⟩) ∈ lw_all := lw_g (lw_at lw_ms 0 rfl) rfl
theorem qs1 : (Cond.selects "WeaveStore" ⟨"WeaveStore", "sweep", "()V"⟩ ⟨"WeaveStore", "sweep", "()V"⟩) ∈ lw_all := lw_g (lw_at lw_ms 1 rfl) rfl
theorem qs2 : (Cond.selects "WeaveStore" ⟨"WeaveStore", "lengthOf", "(I)I"⟩ ⟨"WeaveStore", "lengthOf", "(I)I"⟩) ∈ lw_all := lw_g (lw_at lw_ms 2 rfl) rfl
theorem qs3 : (Cond.selects "WeaveStore" ⟨"WeaveStore", "shows", "(II)Z"⟩ ⟨"WeaveStore", "shows", "(II)Z"⟩) ∈ lw_all := lw_g (lw_at lw_ms 3 rfl) rfl
theorem qs4 : (Cond.selects "WeaveStore" ⟨"WeaveStore", "find", "(II)I"⟩ ⟨"WeaveStore", "find", "(II)I"⟩) ∈ lw_all := lw_g (lw_at lw_ms 4 rfl) rfl
theorem qs5 : (Cond.selects "WeaveStore" ⟨"WeaveStore", "insert", "(II)V"⟩ ⟨"WeaveStore", "insert", "(II)V"⟩) ∈ lw_all := lw_g (lw_at lw_ms 5 rfl) rfl
theorem qs6 : (Cond.selects "WeaveStore" ⟨"WeaveStore", "lineAt", "(II)I"⟩ ⟨"WeaveStore", "lineAt", "(II)I"⟩) ∈ lw_all := lw_g (lw_at lw_ms 6 rfl) rfl
theorem qs7 : (Cond.selects "WeaveStoreModel" ⟨"WeaveStoreModel", "version", "(I)Z"⟩ ⟨"WeaveStoreModel", "version", "(I)Z"⟩) ∈ lw_all := lw_g (lw_at lw_ms 7 rfl) rfl
theorem qs8 : (Cond.selects "WeaveStoreModel" ⟨"WeaveStoreModel", "at", "(II)I"⟩ ⟨"WeaveStoreModel", "at", "(II)I"⟩) ∈ lw_all := lw_g (lw_at lw_ms 8 rfl) rfl
theorem qs9 : (Cond.selects "WeaveStoreModel" ⟨"WeaveStoreModel", "find", "(II)I"⟩ ⟨"WeaveStoreModel", "find", "(II)I"⟩) ∈ lw_all := lw_g (lw_at lw_ms 9 rfl) rfl
/-! java/lang/Object -/
set_option maxRecDepth 100000
def RJ0 : String := "java/lang/Object"
abbrev cJ0_init : ByteArray := object_method_1_code
def yJ0_init : MethodName := ⟨RJ0, "<init>", "()V"⟩
theorem dJ0_init_0 : decode cJ0_init 0 = .ok (.return_, 1) := by decide +kernel
theorem q19 : (Jvm.Cond.instanceMethod ({ cls := "java/lang/Object", name := "<init>", desc := "()V" } : Jvm.MethodName)) ∈ lw_all := lw_g (lw_at lw_m1 9 rfl) rfl
theorem q20 : (Jvm.Cond.code ({ cls := "java/lang/Object", name := "<init>", desc := "()V" } : Jvm.MethodName) object_method_1_code (1 : Nat) (Option.none : Option Jvm.ClassFile.FieldType)) ∈ lw_all := lw_g (lw_at lw_m1 10 rfl) rfl
theorem q46 : (Jvm.Cond.arrayClass Jvm.ClassFile.FieldType.byte) ∈ lw_all := lw_g (lw_at lw_m1 36 rfl) rfl
set_option maxRecDepth 100000
theorem q47 : (Jvm.Cond.arrayClass Jvm.ClassFile.FieldType.short) ∈ lw_all := lw_g (lw_at lw_m1 37 rfl) rfl
theorem q179 : (Jvm.Cond.arrayClass Jvm.ClassFile.FieldType.int) ∈ lw_all := lw_g (lw_at lw_m1 169 rfl) rfl
theorem q10 : (Jvm.Cond.initialized "WeaveStoreLaw") ∈ lw_all := lw_g (lw_at lw_m1 0 rfl) rfl
set_option maxRecDepth 100000
theorem q13 : (Jvm.Cond.classLink "WeaveStoreLaw" (7 : Nat) "WeaveStore") ∈ lw_all := lw_g (lw_at lw_m1 3 rfl) rfl
theorem q15 : (Jvm.Cond.methodLink "WeaveStoreLaw" (9 : Nat) ({ cls := "WeaveStore", name := "<init>", desc := "()V" } : Jvm.MethodName)) ∈ lw_all := lw_g (lw_at lw_m1 5 rfl) rfl
theorem q48 : (Jvm.Cond.methodLink "WeaveStoreLaw" (13 : Nat) ({ cls := "WeaveStore", name := "open", desc := "(I)I" } : Jvm.MethodName)) ∈ lw_all := lw_g (lw_at lw_m1 38 rfl) rfl
theorem q68 : (Jvm.Cond.methodLink "WeaveStoreLaw" (18 : Nat) ({ cls := "WeaveStore", name := "put", desc := "(II)I" } : Jvm.MethodName)) ∈ lw_all := lw_g (lw_at lw_m1 58 rfl) rfl
theorem q80 : (Jvm.Cond.methodLink "WeaveStoreLaw" (23 : Nat) ({ cls := "WeaveStore", name := "cut", desc := "(I)I" } : Jvm.MethodName)) ∈ lw_all := lw_g (lw_at lw_m1 70 rfl) rfl
theorem q84 : (Jvm.Cond.methodLink "WeaveStoreLaw" (27 : Nat) ({ cls := "WeaveStore", name := "close", desc := "()I" } : Jvm.MethodName)) ∈ lw_all := lw_g (lw_at lw_m1 74 rfl) rfl
theorem q88 : (Jvm.Cond.methodLink "WeaveStoreLaw" (32 : Nat) ({ cls := "WeaveStore", name := "discard", desc := "()Z" } : Jvm.MethodName)) ∈ lw_all := lw_g (lw_at lw_m1 78 rfl) rfl
theorem q92 : (Jvm.Cond.methodLink "WeaveStoreLaw" (37 : Nat) ({ cls := "WeaveStore", name := "versions", desc := "()I" } : Jvm.MethodName)) ∈ lw_all := lw_g (lw_at lw_m1 82 rfl) rfl
theorem q96 : (Jvm.Cond.methodLink "WeaveStoreLaw" (41 : Nat) ({ cls := "WeaveStore", name := "length", desc := "(I)I" } : Jvm.MethodName)) ∈ lw_all := lw_g (lw_at lw_m1 86 rfl) rfl
theorem q100 : (Jvm.Cond.methodLink "WeaveStoreLaw" (45 : Nat) ({ cls := "WeaveStore", name := "line", desc := "(II)I" } : Jvm.MethodName)) ∈ lw_all := lw_g (lw_at lw_m1 90 rfl) rfl
theorem q108 : (Jvm.Cond.methodLink "WeaveStoreLaw" (49 : Nat) ({ cls := "WeaveStore", name := "origin", desc := "(II)I" } : Jvm.MethodName)) ∈ lw_all := lw_g (lw_at lw_m1 98 rfl) rfl
theorem q112 : (Jvm.Cond.methodLink "WeaveStoreLaw" (53 : Nat) ({ cls := "WeaveStore", name := "base", desc := "(I)I" } : Jvm.MethodName)) ∈ lw_all := lw_g (lw_at lw_m1 102 rfl) rfl
theorem q116 : (Jvm.Cond.methodLink "WeaveStoreLaw" (57 : Nat) ({ cls := "WeaveStore", name := "ancestors", desc := "(I)I" } : Jvm.MethodName)) ∈ lw_all := lw_g (lw_at lw_m1 106 rfl) rfl
theorem q120 : (Jvm.Cond.methodLink "WeaveStoreLaw" (61 : Nat) ({ cls := "WeaveStore", name := "shared", desc := "(II)I" } : Jvm.MethodName)) ∈ lw_all := lw_g (lw_at lw_m1 110 rfl) rfl
theorem q124 : (Jvm.Cond.methodLink "WeaveStoreLaw" (65 : Nat) ({ cls := "WeaveStore", name := "placeIn", desc := "(III)I" } : Jvm.MethodName)) ∈ lw_all := lw_g (lw_at lw_m1 114 rfl) rfl
theorem q128 : (Jvm.Cond.methodLink "WeaveStoreLaw" (70 : Nat) ({ cls := "WeaveStore", name := "having", desc := "(II)I" } : Jvm.MethodName)) ∈ lw_all := lw_g (lw_at lw_m1 118 rfl) rfl
theorem q132 : (Jvm.Cond.methodLink "WeaveStoreLaw" (74 : Nat) ({ cls := "WeaveStore", name := "draft", desc := "(I)I" } : Jvm.MethodName)) ∈ lw_all := lw_g (lw_at lw_m1 122 rfl) rfl
theorem q136 : (Jvm.Cond.classLink "WeaveStoreLaw" (10 : Nat) "WeaveStoreModel") ∈ lw_all := lw_g (lw_at lw_m1 126 rfl) rfl
theorem q138 : (Jvm.Cond.methodLink "WeaveStoreLaw" (12 : Nat) ({ cls := "WeaveStoreModel", name := "<init>", desc := "()V" } : Jvm.MethodName)) ∈ lw_all := lw_g (lw_at lw_m1 128 rfl) rfl
theorem q180 : (Jvm.Cond.methodLink "WeaveStoreLaw" (17 : Nat) ({ cls := "WeaveStoreModel", name := "open", desc := "(I)I" } : Jvm.MethodName)) ∈ lw_all := lw_g (lw_at lw_m1 170 rfl) rfl
theorem q192 : (Jvm.Cond.methodLink "WeaveStoreLaw" (22 : Nat) ({ cls := "WeaveStoreModel", name := "put", desc := "(II)I" } : Jvm.MethodName)) ∈ lw_all := lw_g (lw_at lw_m1 182 rfl) rfl
theorem q196 : (Jvm.Cond.methodLink "WeaveStoreLaw" (26 : Nat) ({ cls := "WeaveStoreModel", name := "cut", desc := "(I)I" } : Jvm.MethodName)) ∈ lw_all := lw_g (lw_at lw_m1 186 rfl) rfl
theorem q200 : (Jvm.Cond.methodLink "WeaveStoreLaw" (31 : Nat) ({ cls := "WeaveStoreModel", name := "close", desc := "()I" } : Jvm.MethodName)) ∈ lw_all := lw_g (lw_at lw_m1 190 rfl) rfl
theorem q204 : (Jvm.Cond.methodLink "WeaveStoreLaw" (36 : Nat) ({ cls := "WeaveStoreModel", name := "discard", desc := "()Z" } : Jvm.MethodName)) ∈ lw_all := lw_g (lw_at lw_m1 194 rfl) rfl
theorem q205 : (Jvm.Cond.methodLink "WeaveStoreLaw" (40 : Nat) ({ cls := "WeaveStoreModel", name := "versions", desc := "()I" } : Jvm.MethodName)) ∈ lw_all := lw_g (lw_at lw_m1 195 rfl) rfl
theorem q209 : (Jvm.Cond.methodLink "WeaveStoreLaw" (44 : Nat) ({ cls := "WeaveStoreModel", name := "length", desc := "(I)I" } : Jvm.MethodName)) ∈ lw_all := lw_g (lw_at lw_m1 199 rfl) rfl
theorem q213 : (Jvm.Cond.methodLink "WeaveStoreLaw" (48 : Nat) ({ cls := "WeaveStoreModel", name := "line", desc := "(II)I" } : Jvm.MethodName)) ∈ lw_all := lw_g (lw_at lw_m1 203 rfl) rfl
theorem q221 : (Jvm.Cond.methodLink "WeaveStoreLaw" (52 : Nat) ({ cls := "WeaveStoreModel", name := "origin", desc := "(II)I" } : Jvm.MethodName)) ∈ lw_all := lw_g (lw_at lw_m1 211 rfl) rfl
theorem q225 : (Jvm.Cond.methodLink "WeaveStoreLaw" (56 : Nat) ({ cls := "WeaveStoreModel", name := "base", desc := "(I)I" } : Jvm.MethodName)) ∈ lw_all := lw_g (lw_at lw_m1 215 rfl) rfl
theorem q229 : (Jvm.Cond.methodLink "WeaveStoreLaw" (60 : Nat) ({ cls := "WeaveStoreModel", name := "ancestors", desc := "(I)I" } : Jvm.MethodName)) ∈ lw_all := lw_g (lw_at lw_m1 219 rfl) rfl
theorem q233 : (Jvm.Cond.methodLink "WeaveStoreLaw" (64 : Nat) ({ cls := "WeaveStoreModel", name := "shared", desc := "(II)I" } : Jvm.MethodName)) ∈ lw_all := lw_g (lw_at lw_m1 223 rfl) rfl
theorem q241 : (Jvm.Cond.methodLink "WeaveStoreLaw" (69 : Nat) ({ cls := "WeaveStoreModel", name := "placeIn", desc := "(III)I" } : Jvm.MethodName)) ∈ lw_all := lw_g (lw_at lw_m1 231 rfl) rfl
theorem q245 : (Jvm.Cond.methodLink "WeaveStoreLaw" (73 : Nat) ({ cls := "WeaveStoreModel", name := "having", desc := "(II)I" } : Jvm.MethodName)) ∈ lw_all := lw_g (lw_at lw_m1 235 rfl) rfl
theorem q249 : (Jvm.Cond.methodLink "WeaveStoreLaw" (77 : Nat) ({ cls := "WeaveStoreModel", name := "draft", desc := "(I)I" } : Jvm.MethodName)) ∈ lw_all := lw_g (lw_at lw_m1 239 rfl) rfl
end
section
/-! WeaveStore -/
set_option maxRecDepth 100000
def RX0 : String := "WeaveStore"
def TX0 : u_T := fun k => match k with
  | 0 => ("WeaveStore", "total", "I", false)
  | 1 => ("WeaveStore", "contents", "[B", true)
  | 2 => ("WeaveStore", "owners", "[B", true)
  | 3 => ("WeaveStore", "takenOut", "[S", true)
  | 4 => ("WeaveStore", "count", "I", false)
  | 5 => ("WeaveStore", "bases", "[B", true)
  | 6 => ("WeaveStore", "lineage", "[S", true)
  | _ => ("WeaveStore", "drafting", "Z", false)
def tyX0 : Nat → FieldType := fun k => match k with
  | 0 => .int
  | 1 => .array .byte
  | 2 => .array .byte
  | 3 => .array .short
  | 4 => .int
  | 5 => .array .byte
  | 6 => .array .short
  | _ => .boolean
abbrev wsX00 : List Cond := u_ws RX0 TX0 8
theorem nmX0 : ∀ a, a < 8 → ∀ b, b < 8 → a ≠ b → (TX0 a).2.1 ≠ (TX0 b).2.1 := by decide +kernel
theorem tyX0_ok : ∀ k, k < 8 → parseFieldDescriptor (TX0 k).2.2.1 = some (tyX0 k) := by decide +kernel
abbrev cX0_init : ByteArray := prog_1_method_1_code
def yX0_init : MethodName := ⟨RX0, "<init>", "()V"⟩
abbrev cX0_open : ByteArray := prog_1_method_8_code
def yX0_open : MethodName := ⟨RX0, "open", "(I)I"⟩
abbrev cX0_isVersion : ByteArray := prog_1_method_2_code
def yX0_isVersion : MethodName := ⟨RX0, "isVersion", "(I)Z"⟩
abbrev cX0_sweep : ByteArray := prog_1_method_7_code
def yX0_sweep : MethodName := ⟨RX0, "sweep", "()V"⟩
abbrev cX0_lengthOf : ByteArray := prog_1_method_4_code
def yX0_lengthOf : MethodName := ⟨RX0, "lengthOf", "(I)I"⟩
abbrev cX0_shows : ByteArray := prog_1_method_3_code
def yX0_shows : MethodName := ⟨RX0, "shows", "(II)Z"⟩
abbrev cX0_put : ByteArray := prog_1_method_9_code
def yX0_put : MethodName := ⟨RX0, "put", "(II)I"⟩
abbrev cX0_find : ByteArray := prog_1_method_5_code
def yX0_find : MethodName := ⟨RX0, "find", "(II)I"⟩
abbrev cX0_insert : ByteArray := prog_1_method_6_code
def yX0_insert : MethodName := ⟨RX0, "insert", "(II)V"⟩
abbrev cX0_cut : ByteArray := prog_1_method_10_code
def yX0_cut : MethodName := ⟨RX0, "cut", "(I)I"⟩
abbrev cX0_close : ByteArray := prog_1_method_11_code
def yX0_close : MethodName := ⟨RX0, "close", "()I"⟩
abbrev cX0_discard : ByteArray := prog_1_method_12_code
def yX0_discard : MethodName := ⟨RX0, "discard", "()Z"⟩
abbrev cX0_versions : ByteArray := prog_1_method_13_code
def yX0_versions : MethodName := ⟨RX0, "versions", "()I"⟩
abbrev cX0_length : ByteArray := prog_1_method_14_code
def yX0_length : MethodName := ⟨RX0, "length", "(I)I"⟩
abbrev cX0_line : ByteArray := prog_1_method_15_code
def yX0_line : MethodName := ⟨RX0, "line", "(II)I"⟩
abbrev cX0_lineAt : ByteArray := prog_1_method_16_code
def yX0_lineAt : MethodName := ⟨RX0, "lineAt", "(II)I"⟩
abbrev cX0_origin : ByteArray := prog_1_method_17_code
def yX0_origin : MethodName := ⟨RX0, "origin", "(II)I"⟩
abbrev cX0_base : ByteArray := prog_1_method_18_code
def yX0_base : MethodName := ⟨RX0, "base", "(I)I"⟩
abbrev cX0_ancestors : ByteArray := prog_1_method_19_code
def yX0_ancestors : MethodName := ⟨RX0, "ancestors", "(I)I"⟩
abbrev cX0_shared : ByteArray := prog_1_method_20_code
def yX0_shared : MethodName := ⟨RX0, "shared", "(II)I"⟩
abbrev cX0_placeIn : ByteArray := prog_1_method_21_code
def yX0_placeIn : MethodName := ⟨RX0, "placeIn", "(III)I"⟩
abbrev cX0_having : ByteArray := prog_1_method_22_code
def yX0_having : MethodName := ⟨RX0, "having", "(II)I"⟩
abbrev cX0_draft : ByteArray := prog_1_method_23_code
def yX0_draft : MethodName := ⟨RX0, "draft", "(I)I"⟩
theorem q11 : (Jvm.Cond.initialized "WeaveStore") ∈ lw_all := lw_g (lw_at lw_m1 1 rfl) rfl
theorem q14 : (Jvm.Cond.instantiable "WeaveStore" (8 : Nat)) ∈ lw_all := lw_g (lw_at lw_m1 4 rfl) rfl
theorem q16 : (Jvm.Cond.instanceMethod ({ cls := "WeaveStore", name := "<init>", desc := "()V" } : Jvm.MethodName)) ∈ lw_all := lw_g (lw_at lw_m1 6 rfl) rfl
theorem q17 : (Jvm.Cond.code ({ cls := "WeaveStore", name := "<init>", desc := "()V" } : Jvm.MethodName) prog_1_method_1_code (1 : Nat) (Option.none : Option Jvm.ClassFile.FieldType)) ∈ lw_all := lw_g (lw_at lw_m1 7 rfl) rfl
theorem q18 : (Jvm.Cond.methodLink "WeaveStore" (1 : Nat) ({ cls := "java/lang/Object", name := "<init>", desc := "()V" } : Jvm.MethodName)) ∈ lw_all := lw_g (lw_at lw_m1 8 rfl) rfl
theorem q21 : (Jvm.Cond.fieldLink "WeaveStore" (30 : Nat) "WeaveStore" "total" "I") ∈ lw_all := lw_g (lw_at lw_m1 11 rfl) rfl
theorem q22 : (Jvm.Cond.fieldLink "WeaveStore" (7 : Nat) "WeaveStore" "contents" "[B") ∈ lw_all := lw_g (lw_at lw_m1 12 rfl) rfl
theorem q23 : (Jvm.Cond.fieldLink "WeaveStore" (13 : Nat) "WeaveStore" "owners" "[B") ∈ lw_all := lw_g (lw_at lw_m1 13 rfl) rfl
theorem q24 : (Jvm.Cond.fieldLink "WeaveStore" (16 : Nat) "WeaveStore" "takenOut" "[S") ∈ lw_all := lw_g (lw_at lw_m1 14 rfl) rfl
theorem q25 : (Jvm.Cond.fieldLink "WeaveStore" (20 : Nat) "WeaveStore" "count" "I") ∈ lw_all := lw_g (lw_at lw_m1 15 rfl) rfl
theorem q26 : (Jvm.Cond.fieldLink "WeaveStore" (24 : Nat) "WeaveStore" "bases" "[B") ∈ lw_all := lw_g (lw_at lw_m1 16 rfl) rfl
theorem q27 : (Jvm.Cond.fieldLink "WeaveStore" (27 : Nat) "WeaveStore" "lineage" "[S") ∈ lw_all := lw_g (lw_at lw_m1 17 rfl) rfl
theorem q28 : (Jvm.Cond.fieldLink "WeaveStore" (41 : Nat) "WeaveStore" "drafting" "Z") ∈ lw_all := lw_g (lw_at lw_m1 18 rfl) rfl
theorem q29 : (Jvm.Cond.lays "WeaveStore" "WeaveStore" "total" "I") ∈ lw_all := lw_g (lw_at lw_m1 19 rfl) rfl
theorem q30 : (Jvm.Cond.soleField "WeaveStore" "total") ∈ lw_all := lw_g (lw_at lw_m1 20 rfl) rfl
theorem q31 : (Jvm.Cond.laysFinal "WeaveStore" "WeaveStore" "contents" "[B") ∈ lw_all := lw_g (lw_at lw_m1 21 rfl) rfl
theorem q32 : (Jvm.Cond.soleField "WeaveStore" "contents") ∈ lw_all := lw_g (lw_at lw_m1 22 rfl) rfl
theorem q33 : (Jvm.Cond.laysFinal "WeaveStore" "WeaveStore" "owners" "[B") ∈ lw_all := lw_g (lw_at lw_m1 23 rfl) rfl
theorem q34 : (Jvm.Cond.soleField "WeaveStore" "owners") ∈ lw_all := lw_g (lw_at lw_m1 24 rfl) rfl
theorem q35 : (Jvm.Cond.laysFinal "WeaveStore" "WeaveStore" "takenOut" "[S") ∈ lw_all := lw_g (lw_at lw_m1 25 rfl) rfl
theorem q36 : (Jvm.Cond.soleField "WeaveStore" "takenOut") ∈ lw_all := lw_g (lw_at lw_m1 26 rfl) rfl
theorem q37 : (Jvm.Cond.lays "WeaveStore" "WeaveStore" "count" "I") ∈ lw_all := lw_g (lw_at lw_m1 27 rfl) rfl
theorem q38 : (Jvm.Cond.soleField "WeaveStore" "count") ∈ lw_all := lw_g (lw_at lw_m1 28 rfl) rfl
theorem q39 : (Jvm.Cond.laysFinal "WeaveStore" "WeaveStore" "bases" "[B") ∈ lw_all := lw_g (lw_at lw_m1 29 rfl) rfl
theorem q40 : (Jvm.Cond.soleField "WeaveStore" "bases") ∈ lw_all := lw_g (lw_at lw_m1 30 rfl) rfl
theorem q41 : (Jvm.Cond.laysFinal "WeaveStore" "WeaveStore" "lineage" "[S") ∈ lw_all := lw_g (lw_at lw_m1 31 rfl) rfl
theorem q42 : (Jvm.Cond.soleField "WeaveStore" "lineage") ∈ lw_all := lw_g (lw_at lw_m1 32 rfl) rfl
theorem q43 : (Jvm.Cond.lays "WeaveStore" "WeaveStore" "drafting" "Z") ∈ lw_all := lw_g (lw_at lw_m1 33 rfl) rfl
theorem q44 : (Jvm.Cond.soleField "WeaveStore" "drafting") ∈ lw_all := lw_g (lw_at lw_m1 34 rfl) rfl
theorem q45 : (Jvm.Cond.superclass "WeaveStore" "java/lang/Object") ∈ lw_all := lw_g (lw_at lw_m1 35 rfl) rfl
theorem q49 : (Jvm.Cond.instanceMethod ({ cls := "WeaveStore", name := "open", desc := "(I)I" } : Jvm.MethodName)) ∈ lw_all := lw_g (lw_at lw_m1 39 rfl) rfl
theorem q50 : (Jvm.Cond.selects "WeaveStore" ({ cls := "WeaveStore", name := "open", desc := "(I)I" } : Jvm.MethodName) ({ cls := "WeaveStore", name := "open", desc := "(I)I" } : Jvm.MethodName)) ∈ lw_all := lw_g (lw_at lw_m1 40 rfl) rfl
theorem q51 : (Jvm.Cond.code ({ cls := "WeaveStore", name := "open", desc := "(I)I" } : Jvm.MethodName) prog_1_method_8_code (2 : Nat) (Option.some Jvm.ClassFile.FieldType.int)) ∈ lw_all := lw_g (lw_at lw_m1 41 rfl) rfl
theorem q52 : (Jvm.Cond.methodLink "WeaveStore" (37 : Nat) ({ cls := "WeaveStore", name := "isVersion", desc := "(I)Z" } : Jvm.MethodName)) ∈ lw_all := lw_g (lw_at lw_m1 42 rfl) rfl
theorem q53 : (Jvm.Cond.privateMethod ({ cls := "WeaveStore", name := "isVersion", desc := "(I)Z" } : Jvm.MethodName)) ∈ lw_tbl := lw_at lw_m1 43 rfl
theorem q54 : (Jvm.Cond.instanceMethod ({ cls := "WeaveStore", name := "isVersion", desc := "(I)Z" } : Jvm.MethodName)) ∈ lw_all := lw_g (lw_at lw_m1 44 rfl) rfl
theorem q55 : (Jvm.Cond.code ({ cls := "WeaveStore", name := "isVersion", desc := "(I)Z" } : Jvm.MethodName) prog_1_method_2_code (2 : Nat) (Option.some Jvm.ClassFile.FieldType.boolean)) ∈ lw_all := lw_g (lw_at lw_m1 45 rfl) rfl
theorem q56 : (Jvm.Cond.methodLink "WeaveStore" (45 : Nat) ({ cls := "WeaveStore", name := "sweep", desc := "()V" } : Jvm.MethodName)) ∈ lw_all := lw_g (lw_at lw_m1 46 rfl) rfl
theorem q57 : (Jvm.Cond.privateMethod ({ cls := "WeaveStore", name := "sweep", desc := "()V" } : Jvm.MethodName)) ∈ lw_tbl := lw_at lw_m1 47 rfl
theorem q58 : (Jvm.Cond.instanceMethod ({ cls := "WeaveStore", name := "sweep", desc := "()V" } : Jvm.MethodName)) ∈ lw_all := lw_g (lw_at lw_m1 48 rfl) rfl
theorem q59 : (Jvm.Cond.code ({ cls := "WeaveStore", name := "sweep", desc := "()V" } : Jvm.MethodName) prog_1_method_7_code (3 : Nat) (Option.none : Option Jvm.ClassFile.FieldType)) ∈ lw_all := lw_g (lw_at lw_m1 49 rfl) rfl
theorem q60 : (Jvm.Cond.methodLink "WeaveStore" (48 : Nat) ({ cls := "WeaveStore", name := "lengthOf", desc := "(I)I" } : Jvm.MethodName)) ∈ lw_all := lw_g (lw_at lw_m1 50 rfl) rfl
theorem q61 : (Jvm.Cond.privateMethod ({ cls := "WeaveStore", name := "lengthOf", desc := "(I)I" } : Jvm.MethodName)) ∈ lw_tbl := lw_at lw_m1 51 rfl
theorem q62 : (Jvm.Cond.instanceMethod ({ cls := "WeaveStore", name := "lengthOf", desc := "(I)I" } : Jvm.MethodName)) ∈ lw_all := lw_g (lw_at lw_m1 52 rfl) rfl
theorem q63 : (Jvm.Cond.code ({ cls := "WeaveStore", name := "lengthOf", desc := "(I)I" } : Jvm.MethodName) prog_1_method_4_code (4 : Nat) (Option.some Jvm.ClassFile.FieldType.int)) ∈ lw_all := lw_g (lw_at lw_m1 53 rfl) rfl
theorem q64 : (Jvm.Cond.methodLink "WeaveStore" (33 : Nat) ({ cls := "WeaveStore", name := "shows", desc := "(II)Z" } : Jvm.MethodName)) ∈ lw_all := lw_g (lw_at lw_m1 54 rfl) rfl
theorem q65 : (Jvm.Cond.privateMethod ({ cls := "WeaveStore", name := "shows", desc := "(II)Z" } : Jvm.MethodName)) ∈ lw_tbl := lw_at lw_m1 55 rfl
theorem q66 : (Jvm.Cond.instanceMethod ({ cls := "WeaveStore", name := "shows", desc := "(II)Z" } : Jvm.MethodName)) ∈ lw_all := lw_g (lw_at lw_m1 56 rfl) rfl
theorem q67 : (Jvm.Cond.code ({ cls := "WeaveStore", name := "shows", desc := "(II)Z" } : Jvm.MethodName) prog_1_method_3_code (3 : Nat) (Option.some Jvm.ClassFile.FieldType.boolean)) ∈ lw_all := lw_g (lw_at lw_m1 57 rfl) rfl
theorem q69 : (Jvm.Cond.instanceMethod ({ cls := "WeaveStore", name := "put", desc := "(II)I" } : Jvm.MethodName)) ∈ lw_all := lw_g (lw_at lw_m1 59 rfl) rfl
theorem q70 : (Jvm.Cond.selects "WeaveStore" ({ cls := "WeaveStore", name := "put", desc := "(II)I" } : Jvm.MethodName) ({ cls := "WeaveStore", name := "put", desc := "(II)I" } : Jvm.MethodName)) ∈ lw_all := lw_g (lw_at lw_m1 60 rfl) rfl
theorem q71 : (Jvm.Cond.code ({ cls := "WeaveStore", name := "put", desc := "(II)I" } : Jvm.MethodName) prog_1_method_9_code (6 : Nat) (Option.some Jvm.ClassFile.FieldType.int)) ∈ lw_all := lw_g (lw_at lw_m1 61 rfl) rfl
theorem q72 : (Jvm.Cond.methodLink "WeaveStore" (52 : Nat) ({ cls := "WeaveStore", name := "find", desc := "(II)I" } : Jvm.MethodName)) ∈ lw_all := lw_g (lw_at lw_m1 62 rfl) rfl
theorem q73 : (Jvm.Cond.privateMethod ({ cls := "WeaveStore", name := "find", desc := "(II)I" } : Jvm.MethodName)) ∈ lw_tbl := lw_at lw_m1 63 rfl
theorem q74 : (Jvm.Cond.instanceMethod ({ cls := "WeaveStore", name := "find", desc := "(II)I" } : Jvm.MethodName)) ∈ lw_all := lw_g (lw_at lw_m1 64 rfl) rfl
theorem q75 : (Jvm.Cond.code ({ cls := "WeaveStore", name := "find", desc := "(II)I" } : Jvm.MethodName) prog_1_method_5_code (5 : Nat) (Option.some Jvm.ClassFile.FieldType.int)) ∈ lw_all := lw_g (lw_at lw_m1 65 rfl) rfl
theorem q76 : (Jvm.Cond.methodLink "WeaveStore" (56 : Nat) ({ cls := "WeaveStore", name := "insert", desc := "(II)V" } : Jvm.MethodName)) ∈ lw_all := lw_g (lw_at lw_m1 66 rfl) rfl
theorem q77 : (Jvm.Cond.privateMethod ({ cls := "WeaveStore", name := "insert", desc := "(II)V" } : Jvm.MethodName)) ∈ lw_tbl := lw_at lw_m1 67 rfl
theorem q78 : (Jvm.Cond.instanceMethod ({ cls := "WeaveStore", name := "insert", desc := "(II)V" } : Jvm.MethodName)) ∈ lw_all := lw_g (lw_at lw_m1 68 rfl) rfl
theorem q79 : (Jvm.Cond.code ({ cls := "WeaveStore", name := "insert", desc := "(II)V" } : Jvm.MethodName) prog_1_method_6_code (4 : Nat) (Option.none : Option Jvm.ClassFile.FieldType)) ∈ lw_all := lw_g (lw_at lw_m1 69 rfl) rfl
theorem q81 : (Jvm.Cond.instanceMethod ({ cls := "WeaveStore", name := "cut", desc := "(I)I" } : Jvm.MethodName)) ∈ lw_all := lw_g (lw_at lw_m1 71 rfl) rfl
theorem q82 : (Jvm.Cond.selects "WeaveStore" ({ cls := "WeaveStore", name := "cut", desc := "(I)I" } : Jvm.MethodName) ({ cls := "WeaveStore", name := "cut", desc := "(I)I" } : Jvm.MethodName)) ∈ lw_all := lw_g (lw_at lw_m1 72 rfl) rfl
theorem q83 : (Jvm.Cond.code ({ cls := "WeaveStore", name := "cut", desc := "(I)I" } : Jvm.MethodName) prog_1_method_10_code (3 : Nat) (Option.some Jvm.ClassFile.FieldType.int)) ∈ lw_all := lw_g (lw_at lw_m1 73 rfl) rfl
theorem q85 : (Jvm.Cond.instanceMethod ({ cls := "WeaveStore", name := "close", desc := "()I" } : Jvm.MethodName)) ∈ lw_all := lw_g (lw_at lw_m1 75 rfl) rfl
theorem q86 : (Jvm.Cond.selects "WeaveStore" ({ cls := "WeaveStore", name := "close", desc := "()I" } : Jvm.MethodName) ({ cls := "WeaveStore", name := "close", desc := "()I" } : Jvm.MethodName)) ∈ lw_all := lw_g (lw_at lw_m1 76 rfl) rfl
theorem q87 : (Jvm.Cond.code ({ cls := "WeaveStore", name := "close", desc := "()I" } : Jvm.MethodName) prog_1_method_11_code (1 : Nat) (Option.some Jvm.ClassFile.FieldType.int)) ∈ lw_all := lw_g (lw_at lw_m1 77 rfl) rfl
theorem q89 : (Jvm.Cond.instanceMethod ({ cls := "WeaveStore", name := "discard", desc := "()Z" } : Jvm.MethodName)) ∈ lw_all := lw_g (lw_at lw_m1 79 rfl) rfl
theorem q90 : (Jvm.Cond.selects "WeaveStore" ({ cls := "WeaveStore", name := "discard", desc := "()Z" } : Jvm.MethodName) ({ cls := "WeaveStore", name := "discard", desc := "()Z" } : Jvm.MethodName)) ∈ lw_all := lw_g (lw_at lw_m1 80 rfl) rfl
theorem q91 : (Jvm.Cond.code ({ cls := "WeaveStore", name := "discard", desc := "()Z" } : Jvm.MethodName) prog_1_method_12_code (1 : Nat) (Option.some Jvm.ClassFile.FieldType.boolean)) ∈ lw_all := lw_g (lw_at lw_m1 81 rfl) rfl
theorem q93 : (Jvm.Cond.instanceMethod ({ cls := "WeaveStore", name := "versions", desc := "()I" } : Jvm.MethodName)) ∈ lw_all := lw_g (lw_at lw_m1 83 rfl) rfl
theorem q94 : (Jvm.Cond.selects "WeaveStore" ({ cls := "WeaveStore", name := "versions", desc := "()I" } : Jvm.MethodName) ({ cls := "WeaveStore", name := "versions", desc := "()I" } : Jvm.MethodName)) ∈ lw_all := lw_g (lw_at lw_m1 84 rfl) rfl
theorem q95 : (Jvm.Cond.code ({ cls := "WeaveStore", name := "versions", desc := "()I" } : Jvm.MethodName) prog_1_method_13_code (1 : Nat) (Option.some Jvm.ClassFile.FieldType.int)) ∈ lw_all := lw_g (lw_at lw_m1 85 rfl) rfl
theorem q97 : (Jvm.Cond.instanceMethod ({ cls := "WeaveStore", name := "length", desc := "(I)I" } : Jvm.MethodName)) ∈ lw_all := lw_g (lw_at lw_m1 87 rfl) rfl
theorem q98 : (Jvm.Cond.selects "WeaveStore" ({ cls := "WeaveStore", name := "length", desc := "(I)I" } : Jvm.MethodName) ({ cls := "WeaveStore", name := "length", desc := "(I)I" } : Jvm.MethodName)) ∈ lw_all := lw_g (lw_at lw_m1 88 rfl) rfl
theorem q99 : (Jvm.Cond.code ({ cls := "WeaveStore", name := "length", desc := "(I)I" } : Jvm.MethodName) prog_1_method_14_code (2 : Nat) (Option.some Jvm.ClassFile.FieldType.int)) ∈ lw_all := lw_g (lw_at lw_m1 89 rfl) rfl
theorem q101 : (Jvm.Cond.instanceMethod ({ cls := "WeaveStore", name := "line", desc := "(II)I" } : Jvm.MethodName)) ∈ lw_all := lw_g (lw_at lw_m1 91 rfl) rfl
theorem q102 : (Jvm.Cond.selects "WeaveStore" ({ cls := "WeaveStore", name := "line", desc := "(II)I" } : Jvm.MethodName) ({ cls := "WeaveStore", name := "line", desc := "(II)I" } : Jvm.MethodName)) ∈ lw_all := lw_g (lw_at lw_m1 92 rfl) rfl
theorem q103 : (Jvm.Cond.code ({ cls := "WeaveStore", name := "line", desc := "(II)I" } : Jvm.MethodName) prog_1_method_15_code (4 : Nat) (Option.some Jvm.ClassFile.FieldType.int)) ∈ lw_all := lw_g (lw_at lw_m1 93 rfl) rfl
theorem q104 : (Jvm.Cond.methodLink "WeaveStore" (60 : Nat) ({ cls := "WeaveStore", name := "lineAt", desc := "(II)I" } : Jvm.MethodName)) ∈ lw_all := lw_g (lw_at lw_m1 94 rfl) rfl
theorem q105 : (Jvm.Cond.privateMethod ({ cls := "WeaveStore", name := "lineAt", desc := "(II)I" } : Jvm.MethodName)) ∈ lw_tbl := lw_at lw_m1 95 rfl
theorem q106 : (Jvm.Cond.instanceMethod ({ cls := "WeaveStore", name := "lineAt", desc := "(II)I" } : Jvm.MethodName)) ∈ lw_all := lw_g (lw_at lw_m1 96 rfl) rfl
theorem q107 : (Jvm.Cond.code ({ cls := "WeaveStore", name := "lineAt", desc := "(II)I" } : Jvm.MethodName) prog_1_method_16_code (3 : Nat) (Option.some Jvm.ClassFile.FieldType.int)) ∈ lw_all := lw_g (lw_at lw_m1 97 rfl) rfl
theorem q109 : (Jvm.Cond.instanceMethod ({ cls := "WeaveStore", name := "origin", desc := "(II)I" } : Jvm.MethodName)) ∈ lw_all := lw_g (lw_at lw_m1 99 rfl) rfl
theorem q110 : (Jvm.Cond.selects "WeaveStore" ({ cls := "WeaveStore", name := "origin", desc := "(II)I" } : Jvm.MethodName) ({ cls := "WeaveStore", name := "origin", desc := "(II)I" } : Jvm.MethodName)) ∈ lw_all := lw_g (lw_at lw_m1 100 rfl) rfl
theorem q111 : (Jvm.Cond.code ({ cls := "WeaveStore", name := "origin", desc := "(II)I" } : Jvm.MethodName) prog_1_method_17_code (4 : Nat) (Option.some Jvm.ClassFile.FieldType.int)) ∈ lw_all := lw_g (lw_at lw_m1 101 rfl) rfl
theorem q113 : (Jvm.Cond.instanceMethod ({ cls := "WeaveStore", name := "base", desc := "(I)I" } : Jvm.MethodName)) ∈ lw_all := lw_g (lw_at lw_m1 103 rfl) rfl
theorem q114 : (Jvm.Cond.selects "WeaveStore" ({ cls := "WeaveStore", name := "base", desc := "(I)I" } : Jvm.MethodName) ({ cls := "WeaveStore", name := "base", desc := "(I)I" } : Jvm.MethodName)) ∈ lw_all := lw_g (lw_at lw_m1 104 rfl) rfl
theorem q115 : (Jvm.Cond.code ({ cls := "WeaveStore", name := "base", desc := "(I)I" } : Jvm.MethodName) prog_1_method_18_code (2 : Nat) (Option.some Jvm.ClassFile.FieldType.int)) ∈ lw_all := lw_g (lw_at lw_m1 105 rfl) rfl
theorem q117 : (Jvm.Cond.instanceMethod ({ cls := "WeaveStore", name := "ancestors", desc := "(I)I" } : Jvm.MethodName)) ∈ lw_all := lw_g (lw_at lw_m1 107 rfl) rfl
theorem q118 : (Jvm.Cond.selects "WeaveStore" ({ cls := "WeaveStore", name := "ancestors", desc := "(I)I" } : Jvm.MethodName) ({ cls := "WeaveStore", name := "ancestors", desc := "(I)I" } : Jvm.MethodName)) ∈ lw_all := lw_g (lw_at lw_m1 108 rfl) rfl
theorem q119 : (Jvm.Cond.code ({ cls := "WeaveStore", name := "ancestors", desc := "(I)I" } : Jvm.MethodName) prog_1_method_19_code (2 : Nat) (Option.some Jvm.ClassFile.FieldType.int)) ∈ lw_all := lw_g (lw_at lw_m1 109 rfl) rfl
theorem q121 : (Jvm.Cond.instanceMethod ({ cls := "WeaveStore", name := "shared", desc := "(II)I" } : Jvm.MethodName)) ∈ lw_all := lw_g (lw_at lw_m1 111 rfl) rfl
theorem q122 : (Jvm.Cond.selects "WeaveStore" ({ cls := "WeaveStore", name := "shared", desc := "(II)I" } : Jvm.MethodName) ({ cls := "WeaveStore", name := "shared", desc := "(II)I" } : Jvm.MethodName)) ∈ lw_all := lw_g (lw_at lw_m1 112 rfl) rfl
theorem q123 : (Jvm.Cond.code ({ cls := "WeaveStore", name := "shared", desc := "(II)I" } : Jvm.MethodName) prog_1_method_20_code (5 : Nat) (Option.some Jvm.ClassFile.FieldType.int)) ∈ lw_all := lw_g (lw_at lw_m1 113 rfl) rfl
theorem q125 : (Jvm.Cond.instanceMethod ({ cls := "WeaveStore", name := "placeIn", desc := "(III)I" } : Jvm.MethodName)) ∈ lw_all := lw_g (lw_at lw_m1 115 rfl) rfl
theorem q126 : (Jvm.Cond.selects "WeaveStore" ({ cls := "WeaveStore", name := "placeIn", desc := "(III)I" } : Jvm.MethodName) ({ cls := "WeaveStore", name := "placeIn", desc := "(III)I" } : Jvm.MethodName)) ∈ lw_all := lw_g (lw_at lw_m1 116 rfl) rfl
theorem q127 : (Jvm.Cond.code ({ cls := "WeaveStore", name := "placeIn", desc := "(III)I" } : Jvm.MethodName) prog_1_method_21_code (7 : Nat) (Option.some Jvm.ClassFile.FieldType.int)) ∈ lw_all := lw_g (lw_at lw_m1 117 rfl) rfl
theorem q129 : (Jvm.Cond.instanceMethod ({ cls := "WeaveStore", name := "having", desc := "(II)I" } : Jvm.MethodName)) ∈ lw_all := lw_g (lw_at lw_m1 119 rfl) rfl
theorem q130 : (Jvm.Cond.selects "WeaveStore" ({ cls := "WeaveStore", name := "having", desc := "(II)I" } : Jvm.MethodName) ({ cls := "WeaveStore", name := "having", desc := "(II)I" } : Jvm.MethodName)) ∈ lw_all := lw_g (lw_at lw_m1 120 rfl) rfl
theorem q131 : (Jvm.Cond.code ({ cls := "WeaveStore", name := "having", desc := "(II)I" } : Jvm.MethodName) prog_1_method_22_code (6 : Nat) (Option.some Jvm.ClassFile.FieldType.int)) ∈ lw_all := lw_g (lw_at lw_m1 121 rfl) rfl
theorem q133 : (Jvm.Cond.instanceMethod ({ cls := "WeaveStore", name := "draft", desc := "(I)I" } : Jvm.MethodName)) ∈ lw_all := lw_g (lw_at lw_m1 123 rfl) rfl
theorem q134 : (Jvm.Cond.selects "WeaveStore" ({ cls := "WeaveStore", name := "draft", desc := "(I)I" } : Jvm.MethodName) ({ cls := "WeaveStore", name := "draft", desc := "(I)I" } : Jvm.MethodName)) ∈ lw_all := lw_g (lw_at lw_m1 124 rfl) rfl
theorem q135 : (Jvm.Cond.code ({ cls := "WeaveStore", name := "draft", desc := "(I)I" } : Jvm.MethodName) prog_1_method_23_code (5 : Nat) (Option.some Jvm.ClassFile.FieldType.int)) ∈ lw_all := lw_g (lw_at lw_m1 125 rfl) rfl
theorem in_X0 : ∀ w ∈ wsX00, w ∈ lw_all := lw_in wsX00 [29, 31, 33, 35, 37, 39, 41, 43] (by decide +kernel) (by decide +kernel)
end
section
set_option maxRecDepth 100000
theorem dX0_init_0 : decode cX0_init 0 = .ok (.aload_n 0, 1) := by decide +kernel
theorem dX0_init_1 : decode cX0_init 1 = .ok (.invokespecial 1, 3) := by decide +kernel
theorem dX0_init_4 : decode cX0_init 4 = .ok (.aload_n 0, 1) := by decide +kernel
theorem dX0_init_5 : decode cX0_init 5 = .ok (.bipush 30, 2) := by decide +kernel
theorem dX0_init_7 : decode cX0_init 7 = .ok (.newarray .byte, 2) := by decide +kernel
theorem dX0_init_9 : decode cX0_init 9 = .ok (.putfield 7, 3) := by decide +kernel
theorem dX0_init_12 : decode cX0_init 12 = .ok (.aload_n 0, 1) := by decide +kernel
theorem dX0_init_13 : decode cX0_init 13 = .ok (.bipush 30, 2) := by decide +kernel
theorem dX0_init_15 : decode cX0_init 15 = .ok (.newarray .byte, 2) := by decide +kernel
theorem dX0_init_17 : decode cX0_init 17 = .ok (.putfield 13, 3) := by decide +kernel
theorem dX0_init_20 : decode cX0_init 20 = .ok (.aload_n 0, 1) := by decide +kernel
theorem dX0_init_21 : decode cX0_init 21 = .ok (.bipush 30, 2) := by decide +kernel
theorem dX0_init_23 : decode cX0_init 23 = .ok (.newarray .short, 2) := by decide +kernel
theorem dX0_init_25 : decode cX0_init 25 = .ok (.putfield 16, 3) := by decide +kernel
theorem dX0_init_28 : decode cX0_init 28 = .ok (.aload_n 0, 1) := by decide +kernel
theorem dX0_init_29 : decode cX0_init 29 = .ok (.iconst 1, 1) := by decide +kernel
theorem dX0_init_30 : decode cX0_init 30 = .ok (.putfield 20, 3) := by decide +kernel
theorem dX0_init_33 : decode cX0_init 33 = .ok (.aload_n 0, 1) := by decide +kernel
theorem dX0_init_34 : decode cX0_init 34 = .ok (.bipush 13, 2) := by decide +kernel
theorem dX0_init_36 : decode cX0_init 36 = .ok (.newarray .byte, 2) := by decide +kernel
theorem dX0_init_38 : decode cX0_init 38 = .ok (.putfield 24, 3) := by decide +kernel
theorem dX0_init_41 : decode cX0_init 41 = .ok (.aload_n 0, 1) := by decide +kernel
theorem dX0_init_42 : decode cX0_init 42 = .ok (.bipush 13, 2) := by decide +kernel
theorem dX0_init_44 : decode cX0_init 44 = .ok (.newarray .short, 2) := by decide +kernel
theorem dX0_init_46 : decode cX0_init 46 = .ok (.putfield 27, 3) := by decide +kernel
theorem dX0_init_49 : decode cX0_init 49 = .ok (.aload_n 0, 1) := by decide +kernel
theorem dX0_init_50 : decode cX0_init 50 = .ok (.getfield 24, 3) := by decide +kernel
theorem dX0_init_53 : decode cX0_init 53 = .ok (.iconst 0, 1) := by decide +kernel
theorem dX0_init_54 : decode cX0_init 54 = .ok (.iconst (-1), 1) := by decide +kernel
theorem dX0_init_55 : decode cX0_init 55 = .ok (.bastore, 1) := by decide +kernel
theorem dX0_init_56 : decode cX0_init 56 = .ok (.aload_n 0, 1) := by decide +kernel
theorem dX0_init_57 : decode cX0_init 57 = .ok (.getfield 27, 3) := by decide +kernel
theorem dX0_init_60 : decode cX0_init 60 = .ok (.iconst 0, 1) := by decide +kernel
theorem dX0_init_61 : decode cX0_init 61 = .ok (.iconst 1, 1) := by decide +kernel
theorem dX0_init_62 : decode cX0_init 62 = .ok (.sastore, 1) := by decide +kernel
theorem dX0_init_63 : decode cX0_init 63 = .ok (.return_, 1) := by decide +kernel
theorem dX0_open_0 : decode cX0_open 0 = .ok (.aload_n 0, 1) := by decide +kernel
theorem dX0_open_1 : decode cX0_open 1 = .ok (.iload_n 1, 1) := by decide +kernel
theorem dX0_open_2 : decode cX0_open 2 = .ok (.invokevirtual 37, 3) := by decide +kernel
theorem dX0_open_5 : decode cX0_open 5 = .ok (.ifCond .ne 5, 3) := by decide +kernel
theorem dX0_open_8 : decode cX0_open 8 = .ok (.iconst (-1), 1) := by decide +kernel
theorem dX0_open_9 : decode cX0_open 9 = .ok (.ireturn, 1) := by decide +kernel
theorem dX0_open_10 : decode cX0_open 10 = .ok (.aload_n 0, 1) := by decide +kernel
theorem dX0_open_11 : decode cX0_open 11 = .ok (.getfield 41, 3) := by decide +kernel
theorem dX0_open_14 : decode cX0_open 14 = .ok (.ifCond .eq 7, 3) := by decide +kernel
theorem dX0_open_17 : decode cX0_open 17 = .ok (.aload_n 0, 1) := by decide +kernel
theorem dX0_open_18 : decode cX0_open 18 = .ok (.invokevirtual 45, 3) := by decide +kernel
theorem dX0_open_21 : decode cX0_open 21 = .ok (.aload_n 0, 1) := by decide +kernel
theorem dX0_open_22 : decode cX0_open 22 = .ok (.iconst 1, 1) := by decide +kernel
theorem dX0_open_23 : decode cX0_open 23 = .ok (.putfield 41, 3) := by decide +kernel
theorem dX0_open_26 : decode cX0_open 26 = .ok (.aload_n 0, 1) := by decide +kernel
theorem dX0_open_27 : decode cX0_open 27 = .ok (.getfield 24, 3) := by decide +kernel
theorem dX0_open_30 : decode cX0_open 30 = .ok (.aload_n 0, 1) := by decide +kernel
theorem dX0_open_31 : decode cX0_open 31 = .ok (.getfield 20, 3) := by decide +kernel
theorem dX0_open_34 : decode cX0_open 34 = .ok (.iload_n 1, 1) := by decide +kernel
theorem dX0_open_35 : decode cX0_open 35 = .ok (.i2b, 1) := by decide +kernel
theorem dX0_open_36 : decode cX0_open 36 = .ok (.bastore, 1) := by decide +kernel
theorem dX0_open_37 : decode cX0_open 37 = .ok (.aload_n 0, 1) := by decide +kernel
theorem dX0_open_38 : decode cX0_open 38 = .ok (.getfield 27, 3) := by decide +kernel
theorem dX0_open_41 : decode cX0_open 41 = .ok (.aload_n 0, 1) := by decide +kernel
theorem dX0_open_42 : decode cX0_open 42 = .ok (.getfield 20, 3) := by decide +kernel
theorem dX0_open_45 : decode cX0_open 45 = .ok (.aload_n 0, 1) := by decide +kernel
theorem dX0_open_46 : decode cX0_open 46 = .ok (.getfield 27, 3) := by decide +kernel
theorem dX0_open_49 : decode cX0_open 49 = .ok (.iload_n 1, 1) := by decide +kernel
theorem dX0_open_50 : decode cX0_open 50 = .ok (.saload, 1) := by decide +kernel
theorem dX0_open_51 : decode cX0_open 51 = .ok (.iconst 1, 1) := by decide +kernel
theorem dX0_open_52 : decode cX0_open 52 = .ok (.aload_n 0, 1) := by decide +kernel
theorem dX0_open_53 : decode cX0_open 53 = .ok (.getfield 20, 3) := by decide +kernel
theorem dX0_open_56 : decode cX0_open 56 = .ok (.ishl, 1) := by decide +kernel
theorem dX0_open_57 : decode cX0_open 57 = .ok (.ior, 1) := by decide +kernel
theorem dX0_open_58 : decode cX0_open 58 = .ok (.i2s, 1) := by decide +kernel
theorem dX0_open_59 : decode cX0_open 59 = .ok (.sastore, 1) := by decide +kernel
theorem dX0_open_60 : decode cX0_open 60 = .ok (.aload_n 0, 1) := by decide +kernel
theorem dX0_open_61 : decode cX0_open 61 = .ok (.aload_n 0, 1) := by decide +kernel
theorem dX0_open_62 : decode cX0_open 62 = .ok (.getfield 27, 3) := by decide +kernel
theorem dX0_open_65 : decode cX0_open 65 = .ok (.aload_n 0, 1) := by decide +kernel
theorem dX0_open_66 : decode cX0_open 66 = .ok (.getfield 20, 3) := by decide +kernel
theorem dX0_open_69 : decode cX0_open 69 = .ok (.saload, 1) := by decide +kernel
theorem dX0_open_70 : decode cX0_open 70 = .ok (.invokevirtual 48, 3) := by decide +kernel
theorem dX0_open_73 : decode cX0_open 73 = .ok (.ireturn, 1) := by decide +kernel
theorem dX0_isVersion_0 : decode cX0_isVersion 0 = .ok (.iload_n 1, 1) := by decide +kernel
theorem dX0_isVersion_1 : decode cX0_isVersion 1 = .ok (.ifCond .lt 15, 3) := by decide +kernel
theorem dX0_isVersion_4 : decode cX0_isVersion 4 = .ok (.iload_n 1, 1) := by decide +kernel
theorem dX0_isVersion_5 : decode cX0_isVersion 5 = .ok (.aload_n 0, 1) := by decide +kernel
theorem dX0_isVersion_6 : decode cX0_isVersion 6 = .ok (.getfield 20, 3) := by decide +kernel
theorem dX0_isVersion_9 : decode cX0_isVersion 9 = .ok (.if_icmp .ge 7, 3) := by decide +kernel
theorem dX0_isVersion_12 : decode cX0_isVersion 12 = .ok (.iconst 1, 1) := by decide +kernel
theorem dX0_isVersion_13 : decode cX0_isVersion 13 = .ok (.goto 4, 3) := by decide +kernel
theorem dX0_isVersion_16 : decode cX0_isVersion 16 = .ok (.iconst 0, 1) := by decide +kernel
theorem dX0_isVersion_17 : decode cX0_isVersion 17 = .ok (.ireturn, 1) := by decide +kernel
theorem dX0_sweep_0 : decode cX0_sweep 0 = .ok (.iconst 0, 1) := by decide +kernel
theorem dX0_sweep_1 : decode cX0_sweep 1 = .ok (.istore_n 1, 1) := by decide +kernel
theorem dX0_sweep_2 : decode cX0_sweep 2 = .ok (.iconst 0, 1) := by decide +kernel
theorem dX0_sweep_3 : decode cX0_sweep 3 = .ok (.istore_n 2, 1) := by decide +kernel
theorem dX0_sweep_4 : decode cX0_sweep 4 = .ok (.iload_n 2, 1) := by decide +kernel
theorem dX0_sweep_5 : decode cX0_sweep 5 = .ok (.aload_n 0, 1) := by decide +kernel
theorem dX0_sweep_6 : decode cX0_sweep 6 = .ok (.getfield 30, 3) := by decide +kernel
theorem dX0_sweep_9 : decode cX0_sweep 9 = .ok (.if_icmp .ge 71, 3) := by decide +kernel
theorem dX0_sweep_12 : decode cX0_sweep 12 = .ok (.aload_n 0, 1) := by decide +kernel
theorem dX0_sweep_13 : decode cX0_sweep 13 = .ok (.getfield 13, 3) := by decide +kernel
theorem dX0_sweep_16 : decode cX0_sweep 16 = .ok (.iload_n 2, 1) := by decide +kernel
theorem dX0_sweep_17 : decode cX0_sweep 17 = .ok (.baload, 1) := by decide +kernel
theorem dX0_sweep_18 : decode cX0_sweep 18 = .ok (.aload_n 0, 1) := by decide +kernel
theorem dX0_sweep_19 : decode cX0_sweep 19 = .ok (.getfield 20, 3) := by decide +kernel
theorem dX0_sweep_22 : decode cX0_sweep 22 = .ok (.if_icmp .eq 52, 3) := by decide +kernel
theorem dX0_sweep_25 : decode cX0_sweep 25 = .ok (.aload_n 0, 1) := by decide +kernel
theorem dX0_sweep_26 : decode cX0_sweep 26 = .ok (.getfield 7, 3) := by decide +kernel
theorem dX0_sweep_29 : decode cX0_sweep 29 = .ok (.iload_n 1, 1) := by decide +kernel
theorem dX0_sweep_30 : decode cX0_sweep 30 = .ok (.aload_n 0, 1) := by decide +kernel
theorem dX0_sweep_31 : decode cX0_sweep 31 = .ok (.getfield 7, 3) := by decide +kernel
theorem dX0_sweep_34 : decode cX0_sweep 34 = .ok (.iload_n 2, 1) := by decide +kernel
theorem dX0_sweep_35 : decode cX0_sweep 35 = .ok (.baload, 1) := by decide +kernel
theorem dX0_sweep_36 : decode cX0_sweep 36 = .ok (.bastore, 1) := by decide +kernel
theorem dX0_sweep_37 : decode cX0_sweep 37 = .ok (.aload_n 0, 1) := by decide +kernel
theorem dX0_sweep_38 : decode cX0_sweep 38 = .ok (.getfield 13, 3) := by decide +kernel
theorem dX0_sweep_41 : decode cX0_sweep 41 = .ok (.iload_n 1, 1) := by decide +kernel
theorem dX0_sweep_42 : decode cX0_sweep 42 = .ok (.aload_n 0, 1) := by decide +kernel
theorem dX0_sweep_43 : decode cX0_sweep 43 = .ok (.getfield 13, 3) := by decide +kernel
theorem dX0_sweep_46 : decode cX0_sweep 46 = .ok (.iload_n 2, 1) := by decide +kernel
theorem dX0_sweep_47 : decode cX0_sweep 47 = .ok (.baload, 1) := by decide +kernel
theorem dX0_sweep_48 : decode cX0_sweep 48 = .ok (.bastore, 1) := by decide +kernel
theorem dX0_sweep_49 : decode cX0_sweep 49 = .ok (.aload_n 0, 1) := by decide +kernel
theorem dX0_sweep_50 : decode cX0_sweep 50 = .ok (.getfield 16, 3) := by decide +kernel
theorem dX0_sweep_53 : decode cX0_sweep 53 = .ok (.iload_n 1, 1) := by decide +kernel
theorem dX0_sweep_54 : decode cX0_sweep 54 = .ok (.aload_n 0, 1) := by decide +kernel
theorem dX0_sweep_55 : decode cX0_sweep 55 = .ok (.getfield 16, 3) := by decide +kernel
theorem dX0_sweep_58 : decode cX0_sweep 58 = .ok (.iload_n 2, 1) := by decide +kernel
theorem dX0_sweep_59 : decode cX0_sweep 59 = .ok (.saload, 1) := by decide +kernel
theorem dX0_sweep_60 : decode cX0_sweep 60 = .ok (.iconst 1, 1) := by decide +kernel
theorem dX0_sweep_61 : decode cX0_sweep 61 = .ok (.aload_n 0, 1) := by decide +kernel
theorem dX0_sweep_62 : decode cX0_sweep 62 = .ok (.getfield 20, 3) := by decide +kernel
theorem dX0_sweep_65 : decode cX0_sweep 65 = .ok (.ishl, 1) := by decide +kernel
theorem dX0_sweep_66 : decode cX0_sweep 66 = .ok (.iconst (-1), 1) := by decide +kernel
theorem dX0_sweep_67 : decode cX0_sweep 67 = .ok (.ixor, 1) := by decide +kernel
theorem dX0_sweep_68 : decode cX0_sweep 68 = .ok (.iand, 1) := by decide +kernel
theorem dX0_sweep_69 : decode cX0_sweep 69 = .ok (.i2s, 1) := by decide +kernel
theorem dX0_sweep_70 : decode cX0_sweep 70 = .ok (.sastore, 1) := by decide +kernel
theorem dX0_sweep_71 : decode cX0_sweep 71 = .ok (.iinc 1 1, 3) := by decide +kernel
theorem dX0_sweep_74 : decode cX0_sweep 74 = .ok (.iinc 2 1, 3) := by decide +kernel
theorem dX0_sweep_77 : decode cX0_sweep 77 = .ok (.goto (-73), 3) := by decide +kernel
theorem dX0_sweep_80 : decode cX0_sweep 80 = .ok (.aload_n 0, 1) := by decide +kernel
theorem dX0_sweep_81 : decode cX0_sweep 81 = .ok (.iload_n 1, 1) := by decide +kernel
theorem dX0_sweep_82 : decode cX0_sweep 82 = .ok (.putfield 30, 3) := by decide +kernel
theorem dX0_sweep_85 : decode cX0_sweep 85 = .ok (.return_, 1) := by decide +kernel
theorem dX0_lengthOf_0 : decode cX0_lengthOf 0 = .ok (.iconst 0, 1) := by decide +kernel
theorem dX0_lengthOf_1 : decode cX0_lengthOf 1 = .ok (.istore_n 2, 1) := by decide +kernel
theorem dX0_lengthOf_2 : decode cX0_lengthOf 2 = .ok (.iconst 0, 1) := by decide +kernel
theorem dX0_lengthOf_3 : decode cX0_lengthOf 3 = .ok (.istore_n 3, 1) := by decide +kernel
theorem dX0_lengthOf_4 : decode cX0_lengthOf 4 = .ok (.iload_n 3, 1) := by decide +kernel
theorem dX0_lengthOf_5 : decode cX0_lengthOf 5 = .ok (.aload_n 0, 1) := by decide +kernel
theorem dX0_lengthOf_6 : decode cX0_lengthOf 6 = .ok (.getfield 30, 3) := by decide +kernel
theorem dX0_lengthOf_9 : decode cX0_lengthOf 9 = .ok (.if_icmp .ge 26, 3) := by decide +kernel
theorem dX0_lengthOf_12 : decode cX0_lengthOf 12 = .ok (.iload_n 2, 1) := by decide +kernel
theorem dX0_lengthOf_13 : decode cX0_lengthOf 13 = .ok (.aload_n 0, 1) := by decide +kernel
theorem dX0_lengthOf_14 : decode cX0_lengthOf 14 = .ok (.iload_n 3, 1) := by decide +kernel
theorem dX0_lengthOf_15 : decode cX0_lengthOf 15 = .ok (.iload_n 1, 1) := by decide +kernel
theorem dX0_lengthOf_16 : decode cX0_lengthOf 16 = .ok (.invokevirtual 33, 3) := by decide +kernel
theorem dX0_lengthOf_19 : decode cX0_lengthOf 19 = .ok (.ifCond .eq 7, 3) := by decide +kernel
theorem dX0_lengthOf_22 : decode cX0_lengthOf 22 = .ok (.iconst 1, 1) := by decide +kernel
theorem dX0_lengthOf_23 : decode cX0_lengthOf 23 = .ok (.goto 4, 3) := by decide +kernel
theorem dX0_lengthOf_26 : decode cX0_lengthOf 26 = .ok (.iconst 0, 1) := by decide +kernel
theorem dX0_lengthOf_27 : decode cX0_lengthOf 27 = .ok (.iadd, 1) := by decide +kernel
theorem dX0_lengthOf_28 : decode cX0_lengthOf 28 = .ok (.istore_n 2, 1) := by decide +kernel
theorem dX0_lengthOf_29 : decode cX0_lengthOf 29 = .ok (.iinc 3 1, 3) := by decide +kernel
theorem dX0_lengthOf_32 : decode cX0_lengthOf 32 = .ok (.goto (-28), 3) := by decide +kernel
theorem dX0_lengthOf_35 : decode cX0_lengthOf 35 = .ok (.iload_n 2, 1) := by decide +kernel
theorem dX0_lengthOf_36 : decode cX0_lengthOf 36 = .ok (.ireturn, 1) := by decide +kernel
theorem dX0_shows_0 : decode cX0_shows 0 = .ok (.iload_n 2, 1) := by decide +kernel
theorem dX0_shows_1 : decode cX0_shows 1 = .ok (.aload_n 0, 1) := by decide +kernel
theorem dX0_shows_2 : decode cX0_shows 2 = .ok (.getfield 13, 3) := by decide +kernel
theorem dX0_shows_5 : decode cX0_shows 5 = .ok (.iload_n 1, 1) := by decide +kernel
theorem dX0_shows_6 : decode cX0_shows 6 = .ok (.baload, 1) := by decide +kernel
theorem dX0_shows_7 : decode cX0_shows 7 = .ok (.ishr, 1) := by decide +kernel
theorem dX0_shows_8 : decode cX0_shows 8 = .ok (.iconst 1, 1) := by decide +kernel
theorem dX0_shows_9 : decode cX0_shows 9 = .ok (.iand, 1) := by decide +kernel
theorem dX0_shows_10 : decode cX0_shows 10 = .ok (.ifCond .eq 18, 3) := by decide +kernel
theorem dX0_shows_13 : decode cX0_shows 13 = .ok (.aload_n 0, 1) := by decide +kernel
theorem dX0_shows_14 : decode cX0_shows 14 = .ok (.getfield 16, 3) := by decide +kernel
theorem dX0_shows_17 : decode cX0_shows 17 = .ok (.iload_n 1, 1) := by decide +kernel
theorem dX0_shows_18 : decode cX0_shows 18 = .ok (.saload, 1) := by decide +kernel
theorem dX0_shows_19 : decode cX0_shows 19 = .ok (.iload_n 2, 1) := by decide +kernel
theorem dX0_shows_20 : decode cX0_shows 20 = .ok (.iand, 1) := by decide +kernel
theorem dX0_shows_21 : decode cX0_shows 21 = .ok (.ifCond .ne 7, 3) := by decide +kernel
theorem dX0_shows_24 : decode cX0_shows 24 = .ok (.iconst 1, 1) := by decide +kernel
theorem dX0_shows_25 : decode cX0_shows 25 = .ok (.goto 4, 3) := by decide +kernel
theorem dX0_shows_28 : decode cX0_shows 28 = .ok (.iconst 0, 1) := by decide +kernel
theorem dX0_shows_29 : decode cX0_shows 29 = .ok (.ireturn, 1) := by decide +kernel
theorem dX0_put_0 : decode cX0_put 0 = .ok (.aload_n 0, 1) := by decide +kernel
theorem dX0_put_1 : decode cX0_put 1 = .ok (.getfield 41, 3) := by decide +kernel
theorem dX0_put_4 : decode cX0_put 4 = .ok (.ifCond .eq 17, 3) := by decide +kernel
theorem dX0_put_7 : decode cX0_put 7 = .ok (.iload_n 2, 1) := by decide +kernel
theorem dX0_put_8 : decode cX0_put 8 = .ok (.ifCond .lt 13, 3) := by decide +kernel
theorem dX0_put_11 : decode cX0_put 11 = .ok (.iload_n 2, 1) := by decide +kernel
theorem dX0_put_12 : decode cX0_put 12 = .ok (.bipush 99, 2) := by decide +kernel
theorem dX0_put_14 : decode cX0_put 14 = .ok (.if_icmp .gt 7, 3) := by decide +kernel
theorem dX0_put_17 : decode cX0_put 17 = .ok (.iload_n 1, 1) := by decide +kernel
theorem dX0_put_18 : decode cX0_put 18 = .ok (.ifCond .ge 5, 3) := by decide +kernel
theorem dX0_put_21 : decode cX0_put 21 = .ok (.iconst (-1), 1) := by decide +kernel
theorem dX0_put_22 : decode cX0_put 22 = .ok (.ireturn, 1) := by decide +kernel
theorem dX0_put_23 : decode cX0_put 23 = .ok (.aload_n 0, 1) := by decide +kernel
theorem dX0_put_24 : decode cX0_put 24 = .ok (.getfield 27, 3) := by decide +kernel
theorem dX0_put_27 : decode cX0_put 27 = .ok (.aload_n 0, 1) := by decide +kernel
theorem dX0_put_28 : decode cX0_put 28 = .ok (.getfield 20, 3) := by decide +kernel
theorem dX0_put_31 : decode cX0_put 31 = .ok (.saload, 1) := by decide +kernel
theorem dX0_put_32 : decode cX0_put 32 = .ok (.istore_n 3, 1) := by decide +kernel
theorem dX0_put_33 : decode cX0_put 33 = .ok (.aload_n 0, 1) := by decide +kernel
theorem dX0_put_34 : decode cX0_put 34 = .ok (.iload_n 3, 1) := by decide +kernel
theorem dX0_put_35 : decode cX0_put 35 = .ok (.invokevirtual 48, 3) := by decide +kernel
theorem dX0_put_38 : decode cX0_put 38 = .ok (.istore 4, 2) := by decide +kernel
theorem dX0_put_40 : decode cX0_put 40 = .ok (.iload_n 1, 1) := by decide +kernel
theorem dX0_put_41 : decode cX0_put 41 = .ok (.iload 4, 2) := by decide +kernel
theorem dX0_put_43 : decode cX0_put 43 = .ok (.if_icmp .le 5, 3) := by decide +kernel
theorem dX0_put_46 : decode cX0_put 46 = .ok (.iconst (-1), 1) := by decide +kernel
theorem dX0_put_47 : decode cX0_put 47 = .ok (.ireturn, 1) := by decide +kernel
theorem dX0_put_48 : decode cX0_put 48 = .ok (.iload 4, 2) := by decide +kernel
theorem dX0_put_50 : decode cX0_put 50 = .ok (.bipush 12, 2) := by decide +kernel
theorem dX0_put_52 : decode cX0_put 52 = .ok (.if_icmp .ge 12, 3) := by decide +kernel
theorem dX0_put_55 : decode cX0_put 55 = .ok (.aload_n 0, 1) := by decide +kernel
theorem dX0_put_56 : decode cX0_put 56 = .ok (.getfield 30, 3) := by decide +kernel
theorem dX0_put_59 : decode cX0_put 59 = .ok (.bipush 30, 2) := by decide +kernel
theorem dX0_put_61 : decode cX0_put 61 = .ok (.if_icmp .lt 6, 3) := by decide +kernel
theorem dX0_put_64 : decode cX0_put 64 = .ok (.bipush (-2), 2) := by decide +kernel
theorem dX0_put_66 : decode cX0_put 66 = .ok (.ireturn, 1) := by decide +kernel
theorem dX0_put_67 : decode cX0_put 67 = .ok (.iload_n 1, 1) := by decide +kernel
theorem dX0_put_68 : decode cX0_put 68 = .ok (.ifCond .ne 7, 3) := by decide +kernel
theorem dX0_put_71 : decode cX0_put 71 = .ok (.iconst (-1), 1) := by decide +kernel
theorem dX0_put_72 : decode cX0_put 72 = .ok (.goto 11, 3) := by decide +kernel
theorem dX0_put_75 : decode cX0_put 75 = .ok (.aload_n 0, 1) := by decide +kernel
theorem dX0_put_76 : decode cX0_put 76 = .ok (.iload_n 3, 1) := by decide +kernel
theorem dX0_put_77 : decode cX0_put 77 = .ok (.iload_n 1, 1) := by decide +kernel
theorem dX0_put_78 : decode cX0_put 78 = .ok (.iconst 1, 1) := by decide +kernel
theorem dX0_put_79 : decode cX0_put 79 = .ok (.isub, 1) := by decide +kernel
theorem dX0_put_80 : decode cX0_put 80 = .ok (.invokevirtual 52, 3) := by decide +kernel
theorem dX0_put_83 : decode cX0_put 83 = .ok (.istore 5, 2) := by decide +kernel
theorem dX0_put_85 : decode cX0_put 85 = .ok (.aload_n 0, 1) := by decide +kernel
theorem dX0_put_86 : decode cX0_put 86 = .ok (.iload 5, 2) := by decide +kernel
theorem dX0_put_88 : decode cX0_put 88 = .ok (.iconst 1, 1) := by decide +kernel
theorem dX0_put_89 : decode cX0_put 89 = .ok (.iadd, 1) := by decide +kernel
theorem dX0_put_90 : decode cX0_put 90 = .ok (.iload_n 2, 1) := by decide +kernel
theorem dX0_put_91 : decode cX0_put 91 = .ok (.invokevirtual 56, 3) := by decide +kernel
theorem dX0_put_94 : decode cX0_put 94 = .ok (.iload 4, 2) := by decide +kernel
theorem dX0_put_96 : decode cX0_put 96 = .ok (.iconst 1, 1) := by decide +kernel
theorem dX0_put_97 : decode cX0_put 97 = .ok (.iadd, 1) := by decide +kernel
theorem dX0_put_98 : decode cX0_put 98 = .ok (.ireturn, 1) := by decide +kernel
theorem dX0_find_0 : decode cX0_find 0 = .ok (.iconst 0, 1) := by decide +kernel
theorem dX0_find_1 : decode cX0_find 1 = .ok (.istore_n 3, 1) := by decide +kernel
theorem dX0_find_2 : decode cX0_find 2 = .ok (.iconst 0, 1) := by decide +kernel
theorem dX0_find_3 : decode cX0_find 3 = .ok (.istore 4, 2) := by decide +kernel
theorem dX0_find_5 : decode cX0_find 5 = .ok (.iload 4, 2) := by decide +kernel
theorem dX0_find_7 : decode cX0_find 7 = .ok (.aload_n 0, 1) := by decide +kernel
theorem dX0_find_8 : decode cX0_find 8 = .ok (.getfield 30, 3) := by decide +kernel
theorem dX0_find_11 : decode cX0_find 11 = .ok (.if_icmp .ge 30, 3) := by decide +kernel
theorem dX0_find_14 : decode cX0_find 14 = .ok (.aload_n 0, 1) := by decide +kernel
theorem dX0_find_15 : decode cX0_find 15 = .ok (.iload 4, 2) := by decide +kernel
theorem dX0_find_17 : decode cX0_find 17 = .ok (.iload_n 1, 1) := by decide +kernel
theorem dX0_find_18 : decode cX0_find 18 = .ok (.invokevirtual 33, 3) := by decide +kernel
theorem dX0_find_21 : decode cX0_find 21 = .ok (.ifCond .eq 14, 3) := by decide +kernel
theorem dX0_find_24 : decode cX0_find 24 = .ok (.iload_n 3, 1) := by decide +kernel
theorem dX0_find_25 : decode cX0_find 25 = .ok (.iload_n 2, 1) := by decide +kernel
theorem dX0_find_26 : decode cX0_find 26 = .ok (.if_icmp .ne 6, 3) := by decide +kernel
theorem dX0_find_29 : decode cX0_find 29 = .ok (.iload 4, 2) := by decide +kernel
theorem dX0_find_31 : decode cX0_find 31 = .ok (.ireturn, 1) := by decide +kernel
theorem dX0_find_32 : decode cX0_find 32 = .ok (.iinc 3 1, 3) := by decide +kernel
theorem dX0_find_35 : decode cX0_find 35 = .ok (.iinc 4 1, 3) := by decide +kernel
theorem dX0_find_38 : decode cX0_find 38 = .ok (.goto (-33), 3) := by decide +kernel
theorem dX0_find_41 : decode cX0_find 41 = .ok (.iconst (-1), 1) := by decide +kernel
theorem dX0_find_42 : decode cX0_find 42 = .ok (.ireturn, 1) := by decide +kernel
theorem dX0_insert_0 : decode cX0_insert 0 = .ok (.aload_n 0, 1) := by decide +kernel
theorem dX0_insert_1 : decode cX0_insert 1 = .ok (.getfield 30, 3) := by decide +kernel
theorem dX0_insert_4 : decode cX0_insert 4 = .ok (.istore_n 3, 1) := by decide +kernel
theorem dX0_insert_5 : decode cX0_insert 5 = .ok (.iload_n 3, 1) := by decide +kernel
theorem dX0_insert_6 : decode cX0_insert 6 = .ok (.iload_n 1, 1) := by decide +kernel
theorem dX0_insert_7 : decode cX0_insert 7 = .ok (.if_icmp .le 51, 3) := by decide +kernel
theorem dX0_insert_10 : decode cX0_insert 10 = .ok (.aload_n 0, 1) := by decide +kernel
theorem dX0_insert_11 : decode cX0_insert 11 = .ok (.getfield 7, 3) := by decide +kernel
theorem dX0_insert_14 : decode cX0_insert 14 = .ok (.iload_n 3, 1) := by decide +kernel
theorem dX0_insert_15 : decode cX0_insert 15 = .ok (.aload_n 0, 1) := by decide +kernel
theorem dX0_insert_16 : decode cX0_insert 16 = .ok (.getfield 7, 3) := by decide +kernel
theorem dX0_insert_19 : decode cX0_insert 19 = .ok (.iload_n 3, 1) := by decide +kernel
theorem dX0_insert_20 : decode cX0_insert 20 = .ok (.iconst 1, 1) := by decide +kernel
theorem dX0_insert_21 : decode cX0_insert 21 = .ok (.isub, 1) := by decide +kernel
theorem dX0_insert_22 : decode cX0_insert 22 = .ok (.baload, 1) := by decide +kernel
theorem dX0_insert_23 : decode cX0_insert 23 = .ok (.bastore, 1) := by decide +kernel
theorem dX0_insert_24 : decode cX0_insert 24 = .ok (.aload_n 0, 1) := by decide +kernel
theorem dX0_insert_25 : decode cX0_insert 25 = .ok (.getfield 13, 3) := by decide +kernel
theorem dX0_insert_28 : decode cX0_insert 28 = .ok (.iload_n 3, 1) := by decide +kernel
theorem dX0_insert_29 : decode cX0_insert 29 = .ok (.aload_n 0, 1) := by decide +kernel
theorem dX0_insert_30 : decode cX0_insert 30 = .ok (.getfield 13, 3) := by decide +kernel
theorem dX0_insert_33 : decode cX0_insert 33 = .ok (.iload_n 3, 1) := by decide +kernel
theorem dX0_insert_34 : decode cX0_insert 34 = .ok (.iconst 1, 1) := by decide +kernel
theorem dX0_insert_35 : decode cX0_insert 35 = .ok (.isub, 1) := by decide +kernel
theorem dX0_insert_36 : decode cX0_insert 36 = .ok (.baload, 1) := by decide +kernel
theorem dX0_insert_37 : decode cX0_insert 37 = .ok (.bastore, 1) := by decide +kernel
theorem dX0_insert_38 : decode cX0_insert 38 = .ok (.aload_n 0, 1) := by decide +kernel
theorem dX0_insert_39 : decode cX0_insert 39 = .ok (.getfield 16, 3) := by decide +kernel
theorem dX0_insert_42 : decode cX0_insert 42 = .ok (.iload_n 3, 1) := by decide +kernel
theorem dX0_insert_43 : decode cX0_insert 43 = .ok (.aload_n 0, 1) := by decide +kernel
theorem dX0_insert_44 : decode cX0_insert 44 = .ok (.getfield 16, 3) := by decide +kernel
theorem dX0_insert_47 : decode cX0_insert 47 = .ok (.iload_n 3, 1) := by decide +kernel
theorem dX0_insert_48 : decode cX0_insert 48 = .ok (.iconst 1, 1) := by decide +kernel
theorem dX0_insert_49 : decode cX0_insert 49 = .ok (.isub, 1) := by decide +kernel
theorem dX0_insert_50 : decode cX0_insert 50 = .ok (.saload, 1) := by decide +kernel
theorem dX0_insert_51 : decode cX0_insert 51 = .ok (.sastore, 1) := by decide +kernel
theorem dX0_insert_52 : decode cX0_insert 52 = .ok (.iinc 3 (-1), 3) := by decide +kernel
theorem dX0_insert_55 : decode cX0_insert 55 = .ok (.goto (-50), 3) := by decide +kernel
theorem dX0_insert_58 : decode cX0_insert 58 = .ok (.aload_n 0, 1) := by decide +kernel
theorem dX0_insert_59 : decode cX0_insert 59 = .ok (.getfield 7, 3) := by decide +kernel
theorem dX0_insert_62 : decode cX0_insert 62 = .ok (.iload_n 1, 1) := by decide +kernel
theorem dX0_insert_63 : decode cX0_insert 63 = .ok (.iload_n 2, 1) := by decide +kernel
theorem dX0_insert_64 : decode cX0_insert 64 = .ok (.i2b, 1) := by decide +kernel
theorem dX0_insert_65 : decode cX0_insert 65 = .ok (.bastore, 1) := by decide +kernel
theorem dX0_insert_66 : decode cX0_insert 66 = .ok (.aload_n 0, 1) := by decide +kernel
theorem dX0_insert_67 : decode cX0_insert 67 = .ok (.getfield 13, 3) := by decide +kernel
theorem dX0_insert_70 : decode cX0_insert 70 = .ok (.iload_n 1, 1) := by decide +kernel
theorem dX0_insert_71 : decode cX0_insert 71 = .ok (.aload_n 0, 1) := by decide +kernel
theorem dX0_insert_72 : decode cX0_insert 72 = .ok (.getfield 20, 3) := by decide +kernel
theorem dX0_insert_75 : decode cX0_insert 75 = .ok (.i2b, 1) := by decide +kernel
theorem dX0_insert_76 : decode cX0_insert 76 = .ok (.bastore, 1) := by decide +kernel
theorem dX0_insert_77 : decode cX0_insert 77 = .ok (.aload_n 0, 1) := by decide +kernel
theorem dX0_insert_78 : decode cX0_insert 78 = .ok (.getfield 16, 3) := by decide +kernel
theorem dX0_insert_81 : decode cX0_insert 81 = .ok (.iload_n 1, 1) := by decide +kernel
theorem dX0_insert_82 : decode cX0_insert 82 = .ok (.iconst 0, 1) := by decide +kernel
theorem dX0_insert_83 : decode cX0_insert 83 = .ok (.sastore, 1) := by decide +kernel
theorem dX0_insert_84 : decode cX0_insert 84 = .ok (.aload_n 0, 1) := by decide +kernel
theorem dX0_insert_85 : decode cX0_insert 85 = .ok (.dup, 1) := by decide +kernel
theorem dX0_insert_86 : decode cX0_insert 86 = .ok (.getfield 30, 3) := by decide +kernel
theorem dX0_insert_89 : decode cX0_insert 89 = .ok (.iconst 1, 1) := by decide +kernel
theorem dX0_insert_90 : decode cX0_insert 90 = .ok (.iadd, 1) := by decide +kernel
theorem dX0_insert_91 : decode cX0_insert 91 = .ok (.putfield 30, 3) := by decide +kernel
theorem dX0_insert_94 : decode cX0_insert 94 = .ok (.return_, 1) := by decide +kernel
theorem dX0_cut_0 : decode cX0_cut 0 = .ok (.aload_n 0, 1) := by decide +kernel
theorem dX0_cut_1 : decode cX0_cut 1 = .ok (.getfield 41, 3) := by decide +kernel
theorem dX0_cut_4 : decode cX0_cut 4 = .ok (.ifCond .eq 24, 3) := by decide +kernel
theorem dX0_cut_7 : decode cX0_cut 7 = .ok (.iload_n 1, 1) := by decide +kernel
theorem dX0_cut_8 : decode cX0_cut 8 = .ok (.ifCond .lt 20, 3) := by decide +kernel
theorem dX0_cut_11 : decode cX0_cut 11 = .ok (.aload_n 0, 1) := by decide +kernel
end
section
set_option maxRecDepth 100000
theorem dX0_cut_12 : decode cX0_cut 12 = .ok (.aload_n 0, 1) := by decide +kernel
theorem dX0_cut_13 : decode cX0_cut 13 = .ok (.getfield 27, 3) := by decide +kernel
theorem dX0_cut_16 : decode cX0_cut 16 = .ok (.aload_n 0, 1) := by decide +kernel
theorem dX0_cut_17 : decode cX0_cut 17 = .ok (.getfield 20, 3) := by decide +kernel
theorem dX0_cut_20 : decode cX0_cut 20 = .ok (.saload, 1) := by decide +kernel
theorem dX0_cut_21 : decode cX0_cut 21 = .ok (.iload_n 1, 1) := by decide +kernel
theorem dX0_cut_22 : decode cX0_cut 22 = .ok (.invokevirtual 52, 3) := by decide +kernel
theorem dX0_cut_25 : decode cX0_cut 25 = .ok (.goto 4, 3) := by decide +kernel
theorem dX0_cut_28 : decode cX0_cut 28 = .ok (.iconst (-1), 1) := by decide +kernel
theorem dX0_cut_29 : decode cX0_cut 29 = .ok (.istore_n 2, 1) := by decide +kernel
theorem dX0_cut_30 : decode cX0_cut 30 = .ok (.iload_n 2, 1) := by decide +kernel
theorem dX0_cut_31 : decode cX0_cut 31 = .ok (.ifCond .ge 5, 3) := by decide +kernel
theorem dX0_cut_34 : decode cX0_cut 34 = .ok (.iconst (-1), 1) := by decide +kernel
theorem dX0_cut_35 : decode cX0_cut 35 = .ok (.ireturn, 1) := by decide +kernel
theorem dX0_cut_36 : decode cX0_cut 36 = .ok (.aload_n 0, 1) := by decide +kernel
theorem dX0_cut_37 : decode cX0_cut 37 = .ok (.getfield 16, 3) := by decide +kernel
theorem dX0_cut_40 : decode cX0_cut 40 = .ok (.iload_n 2, 1) := by decide +kernel
theorem dX0_cut_41 : decode cX0_cut 41 = .ok (.aload_n 0, 1) := by decide +kernel
theorem dX0_cut_42 : decode cX0_cut 42 = .ok (.getfield 16, 3) := by decide +kernel
theorem dX0_cut_45 : decode cX0_cut 45 = .ok (.iload_n 2, 1) := by decide +kernel
theorem dX0_cut_46 : decode cX0_cut 46 = .ok (.saload, 1) := by decide +kernel
theorem dX0_cut_47 : decode cX0_cut 47 = .ok (.iconst 1, 1) := by decide +kernel
theorem dX0_cut_48 : decode cX0_cut 48 = .ok (.aload_n 0, 1) := by decide +kernel
theorem dX0_cut_49 : decode cX0_cut 49 = .ok (.getfield 20, 3) := by decide +kernel
theorem dX0_cut_52 : decode cX0_cut 52 = .ok (.ishl, 1) := by decide +kernel
theorem dX0_cut_53 : decode cX0_cut 53 = .ok (.ior, 1) := by decide +kernel
theorem dX0_cut_54 : decode cX0_cut 54 = .ok (.i2s, 1) := by decide +kernel
theorem dX0_cut_55 : decode cX0_cut 55 = .ok (.sastore, 1) := by decide +kernel
theorem dX0_cut_56 : decode cX0_cut 56 = .ok (.aload_n 0, 1) := by decide +kernel
theorem dX0_cut_57 : decode cX0_cut 57 = .ok (.getfield 7, 3) := by decide +kernel
theorem dX0_cut_60 : decode cX0_cut 60 = .ok (.iload_n 2, 1) := by decide +kernel
theorem dX0_cut_61 : decode cX0_cut 61 = .ok (.baload, 1) := by decide +kernel
theorem dX0_cut_62 : decode cX0_cut 62 = .ok (.ireturn, 1) := by decide +kernel
theorem dX0_close_0 : decode cX0_close 0 = .ok (.aload_n 0, 1) := by decide +kernel
theorem dX0_close_1 : decode cX0_close 1 = .ok (.getfield 41, 3) := by decide +kernel
theorem dX0_close_4 : decode cX0_close 4 = .ok (.ifCond .ne 5, 3) := by decide +kernel
theorem dX0_close_7 : decode cX0_close 7 = .ok (.iconst (-1), 1) := by decide +kernel
theorem dX0_close_8 : decode cX0_close 8 = .ok (.ireturn, 1) := by decide +kernel
theorem dX0_close_9 : decode cX0_close 9 = .ok (.aload_n 0, 1) := by decide +kernel
theorem dX0_close_10 : decode cX0_close 10 = .ok (.getfield 20, 3) := by decide +kernel
theorem dX0_close_13 : decode cX0_close 13 = .ok (.bipush 12, 2) := by decide +kernel
theorem dX0_close_15 : decode cX0_close 15 = .ok (.if_icmp .lt 6, 3) := by decide +kernel
theorem dX0_close_18 : decode cX0_close 18 = .ok (.bipush (-2), 2) := by decide +kernel
theorem dX0_close_20 : decode cX0_close 20 = .ok (.ireturn, 1) := by decide +kernel
theorem dX0_close_21 : decode cX0_close 21 = .ok (.aload_n 0, 1) := by decide +kernel
theorem dX0_close_22 : decode cX0_close 22 = .ok (.iconst 0, 1) := by decide +kernel
theorem dX0_close_23 : decode cX0_close 23 = .ok (.putfield 41, 3) := by decide +kernel
theorem dX0_close_26 : decode cX0_close 26 = .ok (.aload_n 0, 1) := by decide +kernel
theorem dX0_close_27 : decode cX0_close 27 = .ok (.dup, 1) := by decide +kernel
theorem dX0_close_28 : decode cX0_close 28 = .ok (.getfield 20, 3) := by decide +kernel
theorem dX0_close_31 : decode cX0_close 31 = .ok (.iconst 1, 1) := by decide +kernel
theorem dX0_close_32 : decode cX0_close 32 = .ok (.iadd, 1) := by decide +kernel
theorem dX0_close_33 : decode cX0_close 33 = .ok (.putfield 20, 3) := by decide +kernel
theorem dX0_close_36 : decode cX0_close 36 = .ok (.aload_n 0, 1) := by decide +kernel
theorem dX0_close_37 : decode cX0_close 37 = .ok (.getfield 20, 3) := by decide +kernel
theorem dX0_close_40 : decode cX0_close 40 = .ok (.iconst 1, 1) := by decide +kernel
theorem dX0_close_41 : decode cX0_close 41 = .ok (.isub, 1) := by decide +kernel
theorem dX0_close_42 : decode cX0_close 42 = .ok (.ireturn, 1) := by decide +kernel
theorem dX0_discard_0 : decode cX0_discard 0 = .ok (.aload_n 0, 1) := by decide +kernel
theorem dX0_discard_1 : decode cX0_discard 1 = .ok (.getfield 41, 3) := by decide +kernel
theorem dX0_discard_4 : decode cX0_discard 4 = .ok (.ifCond .ne 5, 3) := by decide +kernel
theorem dX0_discard_7 : decode cX0_discard 7 = .ok (.iconst 0, 1) := by decide +kernel
theorem dX0_discard_8 : decode cX0_discard 8 = .ok (.ireturn, 1) := by decide +kernel
theorem dX0_discard_9 : decode cX0_discard 9 = .ok (.aload_n 0, 1) := by decide +kernel
theorem dX0_discard_10 : decode cX0_discard 10 = .ok (.invokevirtual 45, 3) := by decide +kernel
theorem dX0_discard_13 : decode cX0_discard 13 = .ok (.aload_n 0, 1) := by decide +kernel
theorem dX0_discard_14 : decode cX0_discard 14 = .ok (.iconst 0, 1) := by decide +kernel
theorem dX0_discard_15 : decode cX0_discard 15 = .ok (.putfield 41, 3) := by decide +kernel
theorem dX0_discard_18 : decode cX0_discard 18 = .ok (.iconst 1, 1) := by decide +kernel
theorem dX0_discard_19 : decode cX0_discard 19 = .ok (.ireturn, 1) := by decide +kernel
theorem dX0_versions_0 : decode cX0_versions 0 = .ok (.aload_n 0, 1) := by decide +kernel
theorem dX0_versions_1 : decode cX0_versions 1 = .ok (.getfield 20, 3) := by decide +kernel
theorem dX0_versions_4 : decode cX0_versions 4 = .ok (.ireturn, 1) := by decide +kernel
theorem dX0_length_0 : decode cX0_length 0 = .ok (.aload_n 0, 1) := by decide +kernel
theorem dX0_length_1 : decode cX0_length 1 = .ok (.iload_n 1, 1) := by decide +kernel
theorem dX0_length_2 : decode cX0_length 2 = .ok (.invokevirtual 37, 3) := by decide +kernel
theorem dX0_length_5 : decode cX0_length 5 = .ok (.ifCond .eq 16, 3) := by decide +kernel
theorem dX0_length_8 : decode cX0_length 8 = .ok (.aload_n 0, 1) := by decide +kernel
theorem dX0_length_9 : decode cX0_length 9 = .ok (.aload_n 0, 1) := by decide +kernel
theorem dX0_length_10 : decode cX0_length 10 = .ok (.getfield 27, 3) := by decide +kernel
theorem dX0_length_13 : decode cX0_length 13 = .ok (.iload_n 1, 1) := by decide +kernel
theorem dX0_length_14 : decode cX0_length 14 = .ok (.saload, 1) := by decide +kernel
theorem dX0_length_15 : decode cX0_length 15 = .ok (.invokevirtual 48, 3) := by decide +kernel
theorem dX0_length_18 : decode cX0_length 18 = .ok (.goto 4, 3) := by decide +kernel
theorem dX0_length_21 : decode cX0_length 21 = .ok (.iconst (-1), 1) := by decide +kernel
theorem dX0_length_22 : decode cX0_length 22 = .ok (.ireturn, 1) := by decide +kernel
theorem dX0_line_0 : decode cX0_line 0 = .ok (.aload_n 0, 1) := by decide +kernel
theorem dX0_line_1 : decode cX0_line 1 = .ok (.iload_n 1, 1) := by decide +kernel
theorem dX0_line_2 : decode cX0_line 2 = .ok (.iload_n 2, 1) := by decide +kernel
theorem dX0_line_3 : decode cX0_line 3 = .ok (.invokevirtual 60, 3) := by decide +kernel
theorem dX0_line_6 : decode cX0_line 6 = .ok (.istore_n 3, 1) := by decide +kernel
theorem dX0_line_7 : decode cX0_line 7 = .ok (.iload_n 3, 1) := by decide +kernel
theorem dX0_line_8 : decode cX0_line 8 = .ok (.ifCond .ge 7, 3) := by decide +kernel
theorem dX0_line_11 : decode cX0_line 11 = .ok (.iconst (-1), 1) := by decide +kernel
theorem dX0_line_12 : decode cX0_line 12 = .ok (.goto 9, 3) := by decide +kernel
theorem dX0_line_15 : decode cX0_line 15 = .ok (.aload_n 0, 1) := by decide +kernel
theorem dX0_line_16 : decode cX0_line 16 = .ok (.getfield 7, 3) := by decide +kernel
theorem dX0_line_19 : decode cX0_line 19 = .ok (.iload_n 3, 1) := by decide +kernel
theorem dX0_line_20 : decode cX0_line 20 = .ok (.baload, 1) := by decide +kernel
theorem dX0_line_21 : decode cX0_line 21 = .ok (.ireturn, 1) := by decide +kernel
theorem dX0_lineAt_0 : decode cX0_lineAt 0 = .ok (.aload_n 0, 1) := by decide +kernel
theorem dX0_lineAt_1 : decode cX0_lineAt 1 = .ok (.iload_n 1, 1) := by decide +kernel
theorem dX0_lineAt_2 : decode cX0_lineAt 2 = .ok (.invokevirtual 37, 3) := by decide +kernel
theorem dX0_lineAt_5 : decode cX0_lineAt 5 = .ok (.ifCond .eq 21, 3) := by decide +kernel
theorem dX0_lineAt_8 : decode cX0_lineAt 8 = .ok (.iload_n 2, 1) := by decide +kernel
theorem dX0_lineAt_9 : decode cX0_lineAt 9 = .ok (.ifCond .lt 17, 3) := by decide +kernel
theorem dX0_lineAt_12 : decode cX0_lineAt 12 = .ok (.aload_n 0, 1) := by decide +kernel
theorem dX0_lineAt_13 : decode cX0_lineAt 13 = .ok (.aload_n 0, 1) := by decide +kernel
theorem dX0_lineAt_14 : decode cX0_lineAt 14 = .ok (.getfield 27, 3) := by decide +kernel
theorem dX0_lineAt_17 : decode cX0_lineAt 17 = .ok (.iload_n 1, 1) := by decide +kernel
theorem dX0_lineAt_18 : decode cX0_lineAt 18 = .ok (.saload, 1) := by decide +kernel
theorem dX0_lineAt_19 : decode cX0_lineAt 19 = .ok (.iload_n 2, 1) := by decide +kernel
theorem dX0_lineAt_20 : decode cX0_lineAt 20 = .ok (.invokevirtual 52, 3) := by decide +kernel
theorem dX0_lineAt_23 : decode cX0_lineAt 23 = .ok (.goto 4, 3) := by decide +kernel
theorem dX0_lineAt_26 : decode cX0_lineAt 26 = .ok (.iconst (-1), 1) := by decide +kernel
theorem dX0_lineAt_27 : decode cX0_lineAt 27 = .ok (.ireturn, 1) := by decide +kernel
theorem dX0_origin_0 : decode cX0_origin 0 = .ok (.aload_n 0, 1) := by decide +kernel
theorem dX0_origin_1 : decode cX0_origin 1 = .ok (.iload_n 1, 1) := by decide +kernel
theorem dX0_origin_2 : decode cX0_origin 2 = .ok (.iload_n 2, 1) := by decide +kernel
theorem dX0_origin_3 : decode cX0_origin 3 = .ok (.invokevirtual 60, 3) := by decide +kernel
theorem dX0_origin_6 : decode cX0_origin 6 = .ok (.istore_n 3, 1) := by decide +kernel
theorem dX0_origin_7 : decode cX0_origin 7 = .ok (.iload_n 3, 1) := by decide +kernel
theorem dX0_origin_8 : decode cX0_origin 8 = .ok (.ifCond .ge 7, 3) := by decide +kernel
theorem dX0_origin_11 : decode cX0_origin 11 = .ok (.iconst (-1), 1) := by decide +kernel
theorem dX0_origin_12 : decode cX0_origin 12 = .ok (.goto 9, 3) := by decide +kernel
theorem dX0_origin_15 : decode cX0_origin 15 = .ok (.aload_n 0, 1) := by decide +kernel
theorem dX0_origin_16 : decode cX0_origin 16 = .ok (.getfield 13, 3) := by decide +kernel
theorem dX0_origin_19 : decode cX0_origin 19 = .ok (.iload_n 3, 1) := by decide +kernel
theorem dX0_origin_20 : decode cX0_origin 20 = .ok (.baload, 1) := by decide +kernel
theorem dX0_origin_21 : decode cX0_origin 21 = .ok (.ireturn, 1) := by decide +kernel
theorem dX0_base_0 : decode cX0_base 0 = .ok (.aload_n 0, 1) := by decide +kernel
theorem dX0_base_1 : decode cX0_base 1 = .ok (.iload_n 1, 1) := by decide +kernel
theorem dX0_base_2 : decode cX0_base 2 = .ok (.invokevirtual 37, 3) := by decide +kernel
theorem dX0_base_5 : decode cX0_base 5 = .ok (.ifCond .eq 12, 3) := by decide +kernel
theorem dX0_base_8 : decode cX0_base 8 = .ok (.aload_n 0, 1) := by decide +kernel
theorem dX0_base_9 : decode cX0_base 9 = .ok (.getfield 24, 3) := by decide +kernel
theorem dX0_base_12 : decode cX0_base 12 = .ok (.iload_n 1, 1) := by decide +kernel
theorem dX0_base_13 : decode cX0_base 13 = .ok (.baload, 1) := by decide +kernel
theorem dX0_base_14 : decode cX0_base 14 = .ok (.goto 4, 3) := by decide +kernel
theorem dX0_base_17 : decode cX0_base 17 = .ok (.iconst (-1), 1) := by decide +kernel
theorem dX0_base_18 : decode cX0_base 18 = .ok (.ireturn, 1) := by decide +kernel
theorem dX0_ancestors_0 : decode cX0_ancestors 0 = .ok (.aload_n 0, 1) := by decide +kernel
theorem dX0_ancestors_1 : decode cX0_ancestors 1 = .ok (.iload_n 1, 1) := by decide +kernel
theorem dX0_ancestors_2 : decode cX0_ancestors 2 = .ok (.invokevirtual 37, 3) := by decide +kernel
theorem dX0_ancestors_5 : decode cX0_ancestors 5 = .ok (.ifCond .eq 12, 3) := by decide +kernel
theorem dX0_ancestors_8 : decode cX0_ancestors 8 = .ok (.aload_n 0, 1) := by decide +kernel
theorem dX0_ancestors_9 : decode cX0_ancestors 9 = .ok (.getfield 27, 3) := by decide +kernel
theorem dX0_ancestors_12 : decode cX0_ancestors 12 = .ok (.iload_n 1, 1) := by decide +kernel
theorem dX0_ancestors_13 : decode cX0_ancestors 13 = .ok (.saload, 1) := by decide +kernel
theorem dX0_ancestors_14 : decode cX0_ancestors 14 = .ok (.goto 4, 3) := by decide +kernel
theorem dX0_ancestors_17 : decode cX0_ancestors 17 = .ok (.iconst 0, 1) := by decide +kernel
theorem dX0_ancestors_18 : decode cX0_ancestors 18 = .ok (.ireturn, 1) := by decide +kernel
theorem dX0_shared_0 : decode cX0_shared 0 = .ok (.aload_n 0, 1) := by decide +kernel
theorem dX0_shared_1 : decode cX0_shared 1 = .ok (.iload_n 1, 1) := by decide +kernel
theorem dX0_shared_2 : decode cX0_shared 2 = .ok (.invokevirtual 37, 3) := by decide +kernel
theorem dX0_shared_5 : decode cX0_shared 5 = .ok (.ifCond .eq 11, 3) := by decide +kernel
theorem dX0_shared_8 : decode cX0_shared 8 = .ok (.aload_n 0, 1) := by decide +kernel
theorem dX0_shared_9 : decode cX0_shared 9 = .ok (.iload_n 2, 1) := by decide +kernel
theorem dX0_shared_10 : decode cX0_shared 10 = .ok (.invokevirtual 37, 3) := by decide +kernel
theorem dX0_shared_13 : decode cX0_shared 13 = .ok (.ifCond .ne 5, 3) := by decide +kernel
theorem dX0_shared_16 : decode cX0_shared 16 = .ok (.iconst (-1), 1) := by decide +kernel
theorem dX0_shared_17 : decode cX0_shared 17 = .ok (.ireturn, 1) := by decide +kernel
theorem dX0_shared_18 : decode cX0_shared 18 = .ok (.iconst 0, 1) := by decide +kernel
theorem dX0_shared_19 : decode cX0_shared 19 = .ok (.istore_n 3, 1) := by decide +kernel
theorem dX0_shared_20 : decode cX0_shared 20 = .ok (.iconst 0, 1) := by decide +kernel
theorem dX0_shared_21 : decode cX0_shared 21 = .ok (.istore 4, 2) := by decide +kernel
theorem dX0_shared_23 : decode cX0_shared 23 = .ok (.iload 4, 2) := by decide +kernel
theorem dX0_shared_25 : decode cX0_shared 25 = .ok (.aload_n 0, 1) := by decide +kernel
theorem dX0_shared_26 : decode cX0_shared 26 = .ok (.getfield 30, 3) := by decide +kernel
theorem dX0_shared_29 : decode cX0_shared 29 = .ok (.if_icmp .ge 47, 3) := by decide +kernel
theorem dX0_shared_32 : decode cX0_shared 32 = .ok (.iload_n 3, 1) := by decide +kernel
theorem dX0_shared_33 : decode cX0_shared 33 = .ok (.aload_n 0, 1) := by decide +kernel
theorem dX0_shared_34 : decode cX0_shared 34 = .ok (.iload 4, 2) := by decide +kernel
theorem dX0_shared_36 : decode cX0_shared 36 = .ok (.aload_n 0, 1) := by decide +kernel
theorem dX0_shared_37 : decode cX0_shared 37 = .ok (.getfield 27, 3) := by decide +kernel
theorem dX0_shared_40 : decode cX0_shared 40 = .ok (.iload_n 1, 1) := by decide +kernel
theorem dX0_shared_41 : decode cX0_shared 41 = .ok (.saload, 1) := by decide +kernel
theorem dX0_shared_42 : decode cX0_shared 42 = .ok (.invokevirtual 33, 3) := by decide +kernel
theorem dX0_shared_45 : decode cX0_shared 45 = .ok (.ifCond .eq 22, 3) := by decide +kernel
theorem dX0_shared_48 : decode cX0_shared 48 = .ok (.aload_n 0, 1) := by decide +kernel
theorem dX0_shared_49 : decode cX0_shared 49 = .ok (.iload 4, 2) := by decide +kernel
theorem dX0_shared_51 : decode cX0_shared 51 = .ok (.aload_n 0, 1) := by decide +kernel
theorem dX0_shared_52 : decode cX0_shared 52 = .ok (.getfield 27, 3) := by decide +kernel
theorem dX0_shared_55 : decode cX0_shared 55 = .ok (.iload_n 2, 1) := by decide +kernel
theorem dX0_shared_56 : decode cX0_shared 56 = .ok (.saload, 1) := by decide +kernel
theorem dX0_shared_57 : decode cX0_shared 57 = .ok (.invokevirtual 33, 3) := by decide +kernel
theorem dX0_shared_60 : decode cX0_shared 60 = .ok (.ifCond .eq 7, 3) := by decide +kernel
theorem dX0_shared_63 : decode cX0_shared 63 = .ok (.iconst 1, 1) := by decide +kernel
theorem dX0_shared_64 : decode cX0_shared 64 = .ok (.goto 4, 3) := by decide +kernel
theorem dX0_shared_67 : decode cX0_shared 67 = .ok (.iconst 0, 1) := by decide +kernel
theorem dX0_shared_68 : decode cX0_shared 68 = .ok (.iadd, 1) := by decide +kernel
theorem dX0_shared_69 : decode cX0_shared 69 = .ok (.istore_n 3, 1) := by decide +kernel
theorem dX0_shared_70 : decode cX0_shared 70 = .ok (.iinc 4 1, 3) := by decide +kernel
theorem dX0_shared_73 : decode cX0_shared 73 = .ok (.goto (-50), 3) := by decide +kernel
theorem dX0_shared_76 : decode cX0_shared 76 = .ok (.iload_n 3, 1) := by decide +kernel
theorem dX0_shared_77 : decode cX0_shared 77 = .ok (.ireturn, 1) := by decide +kernel
theorem dX0_placeIn_0 : decode cX0_placeIn 0 = .ok (.aload_n 0, 1) := by decide +kernel
theorem dX0_placeIn_1 : decode cX0_placeIn 1 = .ok (.iload_n 1, 1) := by decide +kernel
theorem dX0_placeIn_2 : decode cX0_placeIn 2 = .ok (.iload_n 2, 1) := by decide +kernel
theorem dX0_placeIn_3 : decode cX0_placeIn 3 = .ok (.invokevirtual 60, 3) := by decide +kernel
theorem dX0_placeIn_6 : decode cX0_placeIn 6 = .ok (.istore 4, 2) := by decide +kernel
theorem dX0_placeIn_8 : decode cX0_placeIn 8 = .ok (.iload 4, 2) := by decide +kernel
theorem dX0_placeIn_10 : decode cX0_placeIn 10 = .ok (.ifCond .lt 26, 3) := by decide +kernel
theorem dX0_placeIn_13 : decode cX0_placeIn 13 = .ok (.aload_n 0, 1) := by decide +kernel
theorem dX0_placeIn_14 : decode cX0_placeIn 14 = .ok (.iload_n 3, 1) := by decide +kernel
theorem dX0_placeIn_15 : decode cX0_placeIn 15 = .ok (.invokevirtual 37, 3) := by decide +kernel
theorem dX0_placeIn_18 : decode cX0_placeIn 18 = .ok (.ifCond .eq 18, 3) := by decide +kernel
theorem dX0_placeIn_21 : decode cX0_placeIn 21 = .ok (.aload_n 0, 1) := by decide +kernel
theorem dX0_placeIn_22 : decode cX0_placeIn 22 = .ok (.iload 4, 2) := by decide +kernel
theorem dX0_placeIn_24 : decode cX0_placeIn 24 = .ok (.aload_n 0, 1) := by decide +kernel
theorem dX0_placeIn_25 : decode cX0_placeIn 25 = .ok (.getfield 27, 3) := by decide +kernel
theorem dX0_placeIn_28 : decode cX0_placeIn 28 = .ok (.iload_n 3, 1) := by decide +kernel
theorem dX0_placeIn_29 : decode cX0_placeIn 29 = .ok (.saload, 1) := by decide +kernel
theorem dX0_placeIn_30 : decode cX0_placeIn 30 = .ok (.invokevirtual 33, 3) := by decide +kernel
theorem dX0_placeIn_33 : decode cX0_placeIn 33 = .ok (.ifCond .ne 5, 3) := by decide +kernel
theorem dX0_placeIn_36 : decode cX0_placeIn 36 = .ok (.iconst (-1), 1) := by decide +kernel
theorem dX0_placeIn_37 : decode cX0_placeIn 37 = .ok (.ireturn, 1) := by decide +kernel
theorem dX0_placeIn_38 : decode cX0_placeIn 38 = .ok (.iconst 0, 1) := by decide +kernel
theorem dX0_placeIn_39 : decode cX0_placeIn 39 = .ok (.istore 5, 2) := by decide +kernel
theorem dX0_placeIn_41 : decode cX0_placeIn 41 = .ok (.iconst 0, 1) := by decide +kernel
theorem dX0_placeIn_42 : decode cX0_placeIn 42 = .ok (.istore 6, 2) := by decide +kernel
theorem dX0_placeIn_44 : decode cX0_placeIn 44 = .ok (.iload 6, 2) := by decide +kernel
theorem dX0_placeIn_46 : decode cX0_placeIn 46 = .ok (.iload 4, 2) := by decide +kernel
theorem dX0_placeIn_48 : decode cX0_placeIn 48 = .ok (.if_icmp .ge 34, 3) := by decide +kernel
theorem dX0_placeIn_51 : decode cX0_placeIn 51 = .ok (.iload 5, 2) := by decide +kernel
theorem dX0_placeIn_53 : decode cX0_placeIn 53 = .ok (.aload_n 0, 1) := by decide +kernel
theorem dX0_placeIn_54 : decode cX0_placeIn 54 = .ok (.iload 6, 2) := by decide +kernel
theorem dX0_placeIn_56 : decode cX0_placeIn 56 = .ok (.aload_n 0, 1) := by decide +kernel
theorem dX0_placeIn_57 : decode cX0_placeIn 57 = .ok (.getfield 27, 3) := by decide +kernel
theorem dX0_placeIn_60 : decode cX0_placeIn 60 = .ok (.iload_n 3, 1) := by decide +kernel
theorem dX0_placeIn_61 : decode cX0_placeIn 61 = .ok (.saload, 1) := by decide +kernel
theorem dX0_placeIn_62 : decode cX0_placeIn 62 = .ok (.invokevirtual 33, 3) := by decide +kernel
theorem dX0_placeIn_65 : decode cX0_placeIn 65 = .ok (.ifCond .eq 7, 3) := by decide +kernel
theorem dX0_placeIn_68 : decode cX0_placeIn 68 = .ok (.iconst 1, 1) := by decide +kernel
theorem dX0_placeIn_69 : decode cX0_placeIn 69 = .ok (.goto 4, 3) := by decide +kernel
theorem dX0_placeIn_72 : decode cX0_placeIn 72 = .ok (.iconst 0, 1) := by decide +kernel
theorem dX0_placeIn_73 : decode cX0_placeIn 73 = .ok (.iadd, 1) := by decide +kernel
theorem dX0_placeIn_74 : decode cX0_placeIn 74 = .ok (.istore 5, 2) := by decide +kernel
theorem dX0_placeIn_76 : decode cX0_placeIn 76 = .ok (.iinc 6 1, 3) := by decide +kernel
theorem dX0_placeIn_79 : decode cX0_placeIn 79 = .ok (.goto (-35), 3) := by decide +kernel
theorem dX0_placeIn_82 : decode cX0_placeIn 82 = .ok (.iload 5, 2) := by decide +kernel
theorem dX0_placeIn_84 : decode cX0_placeIn 84 = .ok (.ireturn, 1) := by decide +kernel
theorem dX0_having_0 : decode cX0_having 0 = .ok (.aload_n 0, 1) := by decide +kernel
theorem dX0_having_1 : decode cX0_having 1 = .ok (.iload_n 1, 1) := by decide +kernel
theorem dX0_having_2 : decode cX0_having 2 = .ok (.iload_n 2, 1) := by decide +kernel
theorem dX0_having_3 : decode cX0_having 3 = .ok (.invokevirtual 60, 3) := by decide +kernel
theorem dX0_having_6 : decode cX0_having 6 = .ok (.istore_n 3, 1) := by decide +kernel
theorem dX0_having_7 : decode cX0_having 7 = .ok (.iconst 0, 1) := by decide +kernel
theorem dX0_having_8 : decode cX0_having 8 = .ok (.istore 4, 2) := by decide +kernel
theorem dX0_having_10 : decode cX0_having 10 = .ok (.iconst 0, 1) := by decide +kernel
theorem dX0_having_11 : decode cX0_having 11 = .ok (.istore 5, 2) := by decide +kernel
theorem dX0_having_13 : decode cX0_having 13 = .ok (.iload 5, 2) := by decide +kernel
theorem dX0_having_15 : decode cX0_having 15 = .ok (.aload_n 0, 1) := by decide +kernel
theorem dX0_having_16 : decode cX0_having 16 = .ok (.getfield 20, 3) := by decide +kernel
theorem dX0_having_19 : decode cX0_having 19 = .ok (.if_icmp .ge 41, 3) := by decide +kernel
theorem dX0_having_22 : decode cX0_having 22 = .ok (.iload_n 3, 1) := by decide +kernel
theorem dX0_having_23 : decode cX0_having 23 = .ok (.ifCond .lt 37, 3) := by decide +kernel
theorem dX0_having_26 : decode cX0_having 26 = .ok (.iload 4, 2) := by decide +kernel
theorem dX0_having_28 : decode cX0_having 28 = .ok (.aload_n 0, 1) := by decide +kernel
theorem dX0_having_29 : decode cX0_having 29 = .ok (.iload_n 3, 1) := by decide +kernel
theorem dX0_having_30 : decode cX0_having 30 = .ok (.aload_n 0, 1) := by decide +kernel
theorem dX0_having_31 : decode cX0_having 31 = .ok (.getfield 27, 3) := by decide +kernel
theorem dX0_having_34 : decode cX0_having 34 = .ok (.iload 5, 2) := by decide +kernel
theorem dX0_having_36 : decode cX0_having 36 = .ok (.saload, 1) := by decide +kernel
theorem dX0_having_37 : decode cX0_having 37 = .ok (.invokevirtual 33, 3) := by decide +kernel
theorem dX0_having_40 : decode cX0_having 40 = .ok (.ifCond .eq 10, 3) := by decide +kernel
theorem dX0_having_43 : decode cX0_having 43 = .ok (.iconst 1, 1) := by decide +kernel
theorem dX0_having_44 : decode cX0_having 44 = .ok (.iload 5, 2) := by decide +kernel
theorem dX0_having_46 : decode cX0_having 46 = .ok (.ishl, 1) := by decide +kernel
theorem dX0_having_47 : decode cX0_having 47 = .ok (.goto 4, 3) := by decide +kernel
theorem dX0_having_50 : decode cX0_having 50 = .ok (.iconst 0, 1) := by decide +kernel
theorem dX0_having_51 : decode cX0_having 51 = .ok (.ior, 1) := by decide +kernel
theorem dX0_having_52 : decode cX0_having 52 = .ok (.istore 4, 2) := by decide +kernel
theorem dX0_having_54 : decode cX0_having 54 = .ok (.iinc 5 1, 3) := by decide +kernel
theorem dX0_having_57 : decode cX0_having 57 = .ok (.goto (-44), 3) := by decide +kernel
theorem dX0_having_60 : decode cX0_having 60 = .ok (.iload 4, 2) := by decide +kernel
theorem dX0_having_62 : decode cX0_having 62 = .ok (.ireturn, 1) := by decide +kernel
theorem dX0_draft_0 : decode cX0_draft 0 = .ok (.aload_n 0, 1) := by decide +kernel
theorem dX0_draft_1 : decode cX0_draft 1 = .ok (.getfield 41, 3) := by decide +kernel
theorem dX0_draft_4 : decode cX0_draft 4 = .ok (.ifCond .eq 12, 3) := by decide +kernel
theorem dX0_draft_7 : decode cX0_draft 7 = .ok (.iload_n 1, 1) := by decide +kernel
theorem dX0_draft_8 : decode cX0_draft 8 = .ok (.ifCond .lt 8, 3) := by decide +kernel
theorem dX0_draft_11 : decode cX0_draft 11 = .ok (.iload_n 1, 1) := by decide +kernel
theorem dX0_draft_12 : decode cX0_draft 12 = .ok (.iconst 2, 1) := by decide +kernel
theorem dX0_draft_13 : decode cX0_draft 13 = .ok (.if_icmp .le 5, 3) := by decide +kernel
theorem dX0_draft_16 : decode cX0_draft 16 = .ok (.iconst (-1), 1) := by decide +kernel
theorem dX0_draft_17 : decode cX0_draft 17 = .ok (.ireturn, 1) := by decide +kernel
theorem dX0_draft_18 : decode cX0_draft 18 = .ok (.iconst 0, 1) := by decide +kernel
theorem dX0_draft_19 : decode cX0_draft 19 = .ok (.istore_n 2, 1) := by decide +kernel
theorem dX0_draft_20 : decode cX0_draft 20 = .ok (.iconst 0, 1) := by decide +kernel
theorem dX0_draft_21 : decode cX0_draft 21 = .ok (.istore_n 3, 1) := by decide +kernel
theorem dX0_draft_22 : decode cX0_draft 22 = .ok (.iconst 0, 1) := by decide +kernel
theorem dX0_draft_23 : decode cX0_draft 23 = .ok (.istore 4, 2) := by decide +kernel
theorem dX0_draft_25 : decode cX0_draft 25 = .ok (.iload 4, 2) := by decide +kernel
theorem dX0_draft_27 : decode cX0_draft 27 = .ok (.aload_n 0, 1) := by decide +kernel
theorem dX0_draft_28 : decode cX0_draft 28 = .ok (.getfield 30, 3) := by decide +kernel
theorem dX0_draft_31 : decode cX0_draft 31 = .ok (.if_icmp .ge 52, 3) := by decide +kernel
theorem dX0_draft_34 : decode cX0_draft 34 = .ok (.aload_n 0, 1) := by decide +kernel
theorem dX0_draft_35 : decode cX0_draft 35 = .ok (.iload 4, 2) := by decide +kernel
theorem dX0_draft_37 : decode cX0_draft 37 = .ok (.aload_n 0, 1) := by decide +kernel
theorem dX0_draft_38 : decode cX0_draft 38 = .ok (.getfield 27, 3) := by decide +kernel
theorem dX0_draft_41 : decode cX0_draft 41 = .ok (.aload_n 0, 1) := by decide +kernel
theorem dX0_draft_42 : decode cX0_draft 42 = .ok (.getfield 20, 3) := by decide +kernel
theorem dX0_draft_45 : decode cX0_draft 45 = .ok (.saload, 1) := by decide +kernel
theorem dX0_draft_46 : decode cX0_draft 46 = .ok (.invokevirtual 33, 3) := by decide +kernel
theorem dX0_draft_49 : decode cX0_draft 49 = .ok (.ifCond .eq 28, 3) := by decide +kernel
theorem dX0_draft_52 : decode cX0_draft 52 = .ok (.iinc 2 1, 3) := by decide +kernel
theorem dX0_draft_55 : decode cX0_draft 55 = .ok (.iload_n 3, 1) := by decide +kernel
theorem dX0_draft_56 : decode cX0_draft 56 = .ok (.aload_n 0, 1) := by decide +kernel
theorem dX0_draft_57 : decode cX0_draft 57 = .ok (.getfield 13, 3) := by decide +kernel
theorem dX0_draft_60 : decode cX0_draft 60 = .ok (.iload 4, 2) := by decide +kernel
theorem dX0_draft_62 : decode cX0_draft 62 = .ok (.baload, 1) := by decide +kernel
theorem dX0_draft_63 : decode cX0_draft 63 = .ok (.aload_n 0, 1) := by decide +kernel
theorem dX0_draft_64 : decode cX0_draft 64 = .ok (.getfield 20, 3) := by decide +kernel
theorem dX0_draft_67 : decode cX0_draft 67 = .ok (.if_icmp .ne 7, 3) := by decide +kernel
theorem dX0_draft_70 : decode cX0_draft 70 = .ok (.iconst 1, 1) := by decide +kernel
theorem dX0_draft_71 : decode cX0_draft 71 = .ok (.goto 4, 3) := by decide +kernel
theorem dX0_draft_74 : decode cX0_draft 74 = .ok (.iconst 0, 1) := by decide +kernel
theorem dX0_draft_75 : decode cX0_draft 75 = .ok (.iadd, 1) := by decide +kernel
theorem dX0_draft_76 : decode cX0_draft 76 = .ok (.istore_n 3, 1) := by decide +kernel
theorem dX0_draft_77 : decode cX0_draft 77 = .ok (.iinc 4 1, 3) := by decide +kernel
theorem dX0_draft_80 : decode cX0_draft 80 = .ok (.goto (-55), 3) := by decide +kernel
theorem dX0_draft_83 : decode cX0_draft 83 = .ok (.iload_n 1, 1) := by decide +kernel
theorem dX0_draft_84 : decode cX0_draft 84 = .ok (.ifCond .ne 5, 3) := by decide +kernel
theorem dX0_draft_87 : decode cX0_draft 87 = .ok (.iload_n 2, 1) := by decide +kernel
theorem dX0_draft_88 : decode cX0_draft 88 = .ok (.ireturn, 1) := by decide +kernel
theorem dX0_draft_89 : decode cX0_draft 89 = .ok (.iload_n 1, 1) := by decide +kernel
theorem dX0_draft_90 : decode cX0_draft 90 = .ok (.iconst 1, 1) := by decide +kernel
theorem dX0_draft_91 : decode cX0_draft 91 = .ok (.if_icmp .ne 9, 3) := by decide +kernel
theorem dX0_draft_94 : decode cX0_draft 94 = .ok (.iload_n 2, 1) := by decide +kernel
theorem dX0_draft_95 : decode cX0_draft 95 = .ok (.iload_n 3, 1) := by decide +kernel
theorem dX0_draft_96 : decode cX0_draft 96 = .ok (.isub, 1) := by decide +kernel
theorem dX0_draft_97 : decode cX0_draft 97 = .ok (.goto 4, 3) := by decide +kernel
theorem dX0_draft_100 : decode cX0_draft 100 = .ok (.iload_n 3, 1) := by decide +kernel
theorem dX0_draft_101 : decode cX0_draft 101 = .ok (.ireturn, 1) := by decide +kernel
end
section
/-! WeaveStoreModel -/
set_option maxRecDepth 100000
def RX1 : String := "WeaveStoreModel"
def TX1 : u_T := fun k => match k with
  | 0 => ("WeaveStoreModel", "count", "I", false)
  | 1 => ("WeaveStoreModel", "sizes", "[I", false)
  | 2 => ("WeaveStoreModel", "bases", "[I", false)
  | 3 => ("WeaveStoreModel", "texts", "[I", false)
  | 4 => ("WeaveStoreModel", "lines", "I", false)
  | 5 => ("WeaveStoreModel", "contents", "[I", false)
  | 6 => ("WeaveStoreModel", "owners", "[I", false)
  | 7 => ("WeaveStoreModel", "drafting", "Z", false)
  | 8 => ("WeaveStoreModel", "from", "I", false)
  | 9 => ("WeaveStoreModel", "linesThen", "I", false)
  | 10 => ("WeaveStoreModel", "size", "I", false)
  | _ => ("WeaveStoreModel", "draftLines", "[I", false)
def tyX1 : Nat → FieldType := fun k => match k with
  | 0 => .int
  | 1 => .array .int
  | 2 => .array .int
  | 3 => .array .int
  | 4 => .int
  | 5 => .array .int
  | 6 => .array .int
  | 7 => .boolean
  | 8 => .int
  | 9 => .int
  | 10 => .int
  | _ => .array .int
abbrev wsX10 : List Cond := u_ws RX1 TX1 12
theorem nmX1 : ∀ a, a < 12 → ∀ b, b < 12 → a ≠ b → (TX1 a).2.1 ≠ (TX1 b).2.1 := by decide +kernel
theorem tyX1_ok : ∀ k, k < 12 → parseFieldDescriptor (TX1 k).2.2.1 = some (tyX1 k) := by decide +kernel
abbrev cX1_init : ByteArray := prog_3_method_1_code
def yX1_init : MethodName := ⟨RX1, "<init>", "()V"⟩
abbrev cX1_open : ByteArray := prog_3_method_3_code
def yX1_open : MethodName := ⟨RX1, "open", "(I)I"⟩
abbrev cX1_version : ByteArray := prog_3_method_2_code
def yX1_version : MethodName := ⟨RX1, "version", "(I)Z"⟩
abbrev cX1_discard : ByteArray := prog_3_method_7_code
def yX1_discard : MethodName := ⟨RX1, "discard", "()Z"⟩
abbrev cX1_put : ByteArray := prog_3_method_4_code
def yX1_put : MethodName := ⟨RX1, "put", "(II)I"⟩
abbrev cX1_cut : ByteArray := prog_3_method_5_code
def yX1_cut : MethodName := ⟨RX1, "cut", "(I)I"⟩
abbrev cX1_close : ByteArray := prog_3_method_6_code
def yX1_close : MethodName := ⟨RX1, "close", "()I"⟩
abbrev cX1_versions : ByteArray := prog_3_method_8_code
def yX1_versions : MethodName := ⟨RX1, "versions", "()I"⟩
abbrev cX1_length : ByteArray := prog_3_method_9_code
def yX1_length : MethodName := ⟨RX1, "length", "(I)I"⟩
abbrev cX1_line : ByteArray := prog_3_method_11_code
def yX1_line : MethodName := ⟨RX1, "line", "(II)I"⟩
abbrev cX1_at : ByteArray := prog_3_method_10_code
def yX1_at : MethodName := ⟨RX1, "at", "(II)I"⟩
abbrev cX1_origin : ByteArray := prog_3_method_12_code
def yX1_origin : MethodName := ⟨RX1, "origin", "(II)I"⟩
abbrev cX1_base : ByteArray := prog_3_method_13_code
def yX1_base : MethodName := ⟨RX1, "base", "(I)I"⟩
abbrev cX1_ancestors : ByteArray := prog_3_method_14_code
def yX1_ancestors : MethodName := ⟨RX1, "ancestors", "(I)I"⟩
abbrev cX1_shared : ByteArray := prog_3_method_16_code
def yX1_shared : MethodName := ⟨RX1, "shared", "(II)I"⟩
abbrev cX1_find : ByteArray := prog_3_method_15_code
def yX1_find : MethodName := ⟨RX1, "find", "(II)I"⟩
abbrev cX1_placeIn : ByteArray := prog_3_method_17_code
def yX1_placeIn : MethodName := ⟨RX1, "placeIn", "(III)I"⟩
abbrev cX1_having : ByteArray := prog_3_method_18_code
def yX1_having : MethodName := ⟨RX1, "having", "(II)I"⟩
abbrev cX1_draft : ByteArray := prog_3_method_19_code
def yX1_draft : MethodName := ⟨RX1, "draft", "(I)I"⟩
theorem q12 : (Jvm.Cond.initialized "WeaveStoreModel") ∈ lw_all := lw_g (lw_at lw_m1 2 rfl) rfl
theorem q137 : (Jvm.Cond.instantiable "WeaveStoreModel" (12 : Nat)) ∈ lw_all := lw_g (lw_at lw_m1 127 rfl) rfl
theorem q139 : (Jvm.Cond.instanceMethod ({ cls := "WeaveStoreModel", name := "<init>", desc := "()V" } : Jvm.MethodName)) ∈ lw_all := lw_g (lw_at lw_m1 129 rfl) rfl
theorem q140 : (Jvm.Cond.code ({ cls := "WeaveStoreModel", name := "<init>", desc := "()V" } : Jvm.MethodName) prog_3_method_1_code (1 : Nat) (Option.none : Option Jvm.ClassFile.FieldType)) ∈ lw_all := lw_g (lw_at lw_m1 130 rfl) rfl
theorem q141 : (Jvm.Cond.methodLink "WeaveStoreModel" (1 : Nat) ({ cls := "java/lang/Object", name := "<init>", desc := "()V" } : Jvm.MethodName)) ∈ lw_all := lw_g (lw_at lw_m1 131 rfl) rfl
theorem q142 : (Jvm.Cond.fieldLink "WeaveStoreModel" (28 : Nat) "WeaveStoreModel" "count" "I") ∈ lw_all := lw_g (lw_at lw_m1 132 rfl) rfl
theorem q143 : (Jvm.Cond.fieldLink "WeaveStoreModel" (7 : Nat) "WeaveStoreModel" "sizes" "[I") ∈ lw_all := lw_g (lw_at lw_m1 133 rfl) rfl
theorem q144 : (Jvm.Cond.fieldLink "WeaveStoreModel" (13 : Nat) "WeaveStoreModel" "bases" "[I") ∈ lw_all := lw_g (lw_at lw_m1 134 rfl) rfl
theorem q145 : (Jvm.Cond.fieldLink "WeaveStoreModel" (16 : Nat) "WeaveStoreModel" "texts" "[I") ∈ lw_all := lw_g (lw_at lw_m1 135 rfl) rfl
theorem q146 : (Jvm.Cond.fieldLink "WeaveStoreModel" (47 : Nat) "WeaveStoreModel" "lines" "I") ∈ lw_all := lw_g (lw_at lw_m1 136 rfl) rfl
theorem q147 : (Jvm.Cond.fieldLink "WeaveStoreModel" (19 : Nat) "WeaveStoreModel" "contents" "[I") ∈ lw_all := lw_g (lw_at lw_m1 137 rfl) rfl
theorem q148 : (Jvm.Cond.fieldLink "WeaveStoreModel" (22 : Nat) "WeaveStoreModel" "owners" "[I") ∈ lw_all := lw_g (lw_at lw_m1 138 rfl) rfl
theorem q149 : (Jvm.Cond.fieldLink "WeaveStoreModel" (40 : Nat) "WeaveStoreModel" "drafting" "Z") ∈ lw_all := lw_g (lw_at lw_m1 139 rfl) rfl
theorem q150 : (Jvm.Cond.fieldLink "WeaveStoreModel" (44 : Nat) "WeaveStoreModel" "from" "I") ∈ lw_all := lw_g (lw_at lw_m1 140 rfl) rfl
theorem q151 : (Jvm.Cond.fieldLink "WeaveStoreModel" (50 : Nat) "WeaveStoreModel" "linesThen" "I") ∈ lw_all := lw_g (lw_at lw_m1 141 rfl) rfl
theorem q152 : (Jvm.Cond.fieldLink "WeaveStoreModel" (53 : Nat) "WeaveStoreModel" "size" "I") ∈ lw_all := lw_g (lw_at lw_m1 142 rfl) rfl
theorem q153 : (Jvm.Cond.fieldLink "WeaveStoreModel" (25 : Nat) "WeaveStoreModel" "draftLines" "[I") ∈ lw_all := lw_g (lw_at lw_m1 143 rfl) rfl
theorem q154 : (Jvm.Cond.lays "WeaveStoreModel" "WeaveStoreModel" "count" "I") ∈ lw_all := lw_g (lw_at lw_m1 144 rfl) rfl
theorem q155 : (Jvm.Cond.soleField "WeaveStoreModel" "count") ∈ lw_all := lw_g (lw_at lw_m1 145 rfl) rfl
theorem q156 : (Jvm.Cond.lays "WeaveStoreModel" "WeaveStoreModel" "sizes" "[I") ∈ lw_all := lw_g (lw_at lw_m1 146 rfl) rfl
theorem q157 : (Jvm.Cond.soleField "WeaveStoreModel" "sizes") ∈ lw_all := lw_g (lw_at lw_m1 147 rfl) rfl
theorem q158 : (Jvm.Cond.lays "WeaveStoreModel" "WeaveStoreModel" "bases" "[I") ∈ lw_all := lw_g (lw_at lw_m1 148 rfl) rfl
theorem q159 : (Jvm.Cond.soleField "WeaveStoreModel" "bases") ∈ lw_all := lw_g (lw_at lw_m1 149 rfl) rfl
theorem q160 : (Jvm.Cond.lays "WeaveStoreModel" "WeaveStoreModel" "texts" "[I") ∈ lw_all := lw_g (lw_at lw_m1 150 rfl) rfl
theorem q161 : (Jvm.Cond.soleField "WeaveStoreModel" "texts") ∈ lw_all := lw_g (lw_at lw_m1 151 rfl) rfl
theorem q162 : (Jvm.Cond.lays "WeaveStoreModel" "WeaveStoreModel" "lines" "I") ∈ lw_all := lw_g (lw_at lw_m1 152 rfl) rfl
theorem q163 : (Jvm.Cond.soleField "WeaveStoreModel" "lines") ∈ lw_all := lw_g (lw_at lw_m1 153 rfl) rfl
theorem q164 : (Jvm.Cond.lays "WeaveStoreModel" "WeaveStoreModel" "contents" "[I") ∈ lw_all := lw_g (lw_at lw_m1 154 rfl) rfl
theorem q165 : (Jvm.Cond.soleField "WeaveStoreModel" "contents") ∈ lw_all := lw_g (lw_at lw_m1 155 rfl) rfl
theorem q166 : (Jvm.Cond.lays "WeaveStoreModel" "WeaveStoreModel" "owners" "[I") ∈ lw_all := lw_g (lw_at lw_m1 156 rfl) rfl
theorem q167 : (Jvm.Cond.soleField "WeaveStoreModel" "owners") ∈ lw_all := lw_g (lw_at lw_m1 157 rfl) rfl
theorem q168 : (Jvm.Cond.lays "WeaveStoreModel" "WeaveStoreModel" "drafting" "Z") ∈ lw_all := lw_g (lw_at lw_m1 158 rfl) rfl
theorem q169 : (Jvm.Cond.soleField "WeaveStoreModel" "drafting") ∈ lw_all := lw_g (lw_at lw_m1 159 rfl) rfl
theorem q170 : (Jvm.Cond.lays "WeaveStoreModel" "WeaveStoreModel" "from" "I") ∈ lw_all := lw_g (lw_at lw_m1 160 rfl) rfl
theorem q171 : (Jvm.Cond.soleField "WeaveStoreModel" "from") ∈ lw_all := lw_g (lw_at lw_m1 161 rfl) rfl
theorem q172 : (Jvm.Cond.lays "WeaveStoreModel" "WeaveStoreModel" "linesThen" "I") ∈ lw_all := lw_g (lw_at lw_m1 162 rfl) rfl
theorem q173 : (Jvm.Cond.soleField "WeaveStoreModel" "linesThen") ∈ lw_all := lw_g (lw_at lw_m1 163 rfl) rfl
theorem q174 : (Jvm.Cond.lays "WeaveStoreModel" "WeaveStoreModel" "size" "I") ∈ lw_all := lw_g (lw_at lw_m1 164 rfl) rfl
theorem q175 : (Jvm.Cond.soleField "WeaveStoreModel" "size") ∈ lw_all := lw_g (lw_at lw_m1 165 rfl) rfl
theorem q176 : (Jvm.Cond.lays "WeaveStoreModel" "WeaveStoreModel" "draftLines" "[I") ∈ lw_all := lw_g (lw_at lw_m1 166 rfl) rfl
theorem q177 : (Jvm.Cond.soleField "WeaveStoreModel" "draftLines") ∈ lw_all := lw_g (lw_at lw_m1 167 rfl) rfl
theorem q178 : (Jvm.Cond.superclass "WeaveStoreModel" "java/lang/Object") ∈ lw_all := lw_g (lw_at lw_m1 168 rfl) rfl
theorem q181 : (Jvm.Cond.instanceMethod ({ cls := "WeaveStoreModel", name := "open", desc := "(I)I" } : Jvm.MethodName)) ∈ lw_all := lw_g (lw_at lw_m1 171 rfl) rfl
theorem q182 : (Jvm.Cond.selects "WeaveStoreModel" ({ cls := "WeaveStoreModel", name := "open", desc := "(I)I" } : Jvm.MethodName) ({ cls := "WeaveStoreModel", name := "open", desc := "(I)I" } : Jvm.MethodName)) ∈ lw_all := lw_g (lw_at lw_m1 172 rfl) rfl
theorem q183 : (Jvm.Cond.code ({ cls := "WeaveStoreModel", name := "open", desc := "(I)I" } : Jvm.MethodName) prog_3_method_3_code (3 : Nat) (Option.some Jvm.ClassFile.FieldType.int)) ∈ lw_all := lw_g (lw_at lw_m1 173 rfl) rfl
theorem q184 : (Jvm.Cond.methodLink "WeaveStoreModel" (32 : Nat) ({ cls := "WeaveStoreModel", name := "version", desc := "(I)Z" } : Jvm.MethodName)) ∈ lw_all := lw_g (lw_at lw_m1 174 rfl) rfl
theorem q185 : (Jvm.Cond.privateMethod ({ cls := "WeaveStoreModel", name := "version", desc := "(I)Z" } : Jvm.MethodName)) ∈ lw_tbl := lw_at lw_m1 175 rfl
theorem q186 : (Jvm.Cond.instanceMethod ({ cls := "WeaveStoreModel", name := "version", desc := "(I)Z" } : Jvm.MethodName)) ∈ lw_all := lw_g (lw_at lw_m1 176 rfl) rfl
theorem q187 : (Jvm.Cond.code ({ cls := "WeaveStoreModel", name := "version", desc := "(I)Z" } : Jvm.MethodName) prog_3_method_2_code (2 : Nat) (Option.some Jvm.ClassFile.FieldType.boolean)) ∈ lw_all := lw_g (lw_at lw_m1 177 rfl) rfl
theorem q188 : (Jvm.Cond.methodLink "WeaveStoreModel" (36 : Nat) ({ cls := "WeaveStoreModel", name := "discard", desc := "()Z" } : Jvm.MethodName)) ∈ lw_all := lw_g (lw_at lw_m1 178 rfl) rfl
theorem q189 : (Jvm.Cond.instanceMethod ({ cls := "WeaveStoreModel", name := "discard", desc := "()Z" } : Jvm.MethodName)) ∈ lw_all := lw_g (lw_at lw_m1 179 rfl) rfl
theorem q190 : (Jvm.Cond.selects "WeaveStoreModel" ({ cls := "WeaveStoreModel", name := "discard", desc := "()Z" } : Jvm.MethodName) ({ cls := "WeaveStoreModel", name := "discard", desc := "()Z" } : Jvm.MethodName)) ∈ lw_all := lw_g (lw_at lw_m1 180 rfl) rfl
theorem q191 : (Jvm.Cond.code ({ cls := "WeaveStoreModel", name := "discard", desc := "()Z" } : Jvm.MethodName) prog_3_method_7_code (1 : Nat) (Option.some Jvm.ClassFile.FieldType.boolean)) ∈ lw_all := lw_g (lw_at lw_m1 181 rfl) rfl
theorem q193 : (Jvm.Cond.instanceMethod ({ cls := "WeaveStoreModel", name := "put", desc := "(II)I" } : Jvm.MethodName)) ∈ lw_all := lw_g (lw_at lw_m1 183 rfl) rfl
theorem q194 : (Jvm.Cond.selects "WeaveStoreModel" ({ cls := "WeaveStoreModel", name := "put", desc := "(II)I" } : Jvm.MethodName) ({ cls := "WeaveStoreModel", name := "put", desc := "(II)I" } : Jvm.MethodName)) ∈ lw_all := lw_g (lw_at lw_m1 184 rfl) rfl
theorem q195 : (Jvm.Cond.code ({ cls := "WeaveStoreModel", name := "put", desc := "(II)I" } : Jvm.MethodName) prog_3_method_4_code (4 : Nat) (Option.some Jvm.ClassFile.FieldType.int)) ∈ lw_all := lw_g (lw_at lw_m1 185 rfl) rfl
theorem q197 : (Jvm.Cond.instanceMethod ({ cls := "WeaveStoreModel", name := "cut", desc := "(I)I" } : Jvm.MethodName)) ∈ lw_all := lw_g (lw_at lw_m1 187 rfl) rfl
theorem q198 : (Jvm.Cond.selects "WeaveStoreModel" ({ cls := "WeaveStoreModel", name := "cut", desc := "(I)I" } : Jvm.MethodName) ({ cls := "WeaveStoreModel", name := "cut", desc := "(I)I" } : Jvm.MethodName)) ∈ lw_all := lw_g (lw_at lw_m1 188 rfl) rfl
theorem q199 : (Jvm.Cond.code ({ cls := "WeaveStoreModel", name := "cut", desc := "(I)I" } : Jvm.MethodName) prog_3_method_5_code (4 : Nat) (Option.some Jvm.ClassFile.FieldType.int)) ∈ lw_all := lw_g (lw_at lw_m1 189 rfl) rfl
theorem q201 : (Jvm.Cond.instanceMethod ({ cls := "WeaveStoreModel", name := "close", desc := "()I" } : Jvm.MethodName)) ∈ lw_all := lw_g (lw_at lw_m1 191 rfl) rfl
theorem q202 : (Jvm.Cond.selects "WeaveStoreModel" ({ cls := "WeaveStoreModel", name := "close", desc := "()I" } : Jvm.MethodName) ({ cls := "WeaveStoreModel", name := "close", desc := "()I" } : Jvm.MethodName)) ∈ lw_all := lw_g (lw_at lw_m1 192 rfl) rfl
theorem q203 : (Jvm.Cond.code ({ cls := "WeaveStoreModel", name := "close", desc := "()I" } : Jvm.MethodName) prog_3_method_6_code (2 : Nat) (Option.some Jvm.ClassFile.FieldType.int)) ∈ lw_all := lw_g (lw_at lw_m1 193 rfl) rfl
theorem q206 : (Jvm.Cond.instanceMethod ({ cls := "WeaveStoreModel", name := "versions", desc := "()I" } : Jvm.MethodName)) ∈ lw_all := lw_g (lw_at lw_m1 196 rfl) rfl
theorem q207 : (Jvm.Cond.selects "WeaveStoreModel" ({ cls := "WeaveStoreModel", name := "versions", desc := "()I" } : Jvm.MethodName) ({ cls := "WeaveStoreModel", name := "versions", desc := "()I" } : Jvm.MethodName)) ∈ lw_all := lw_g (lw_at lw_m1 197 rfl) rfl
theorem q208 : (Jvm.Cond.code ({ cls := "WeaveStoreModel", name := "versions", desc := "()I" } : Jvm.MethodName) prog_3_method_8_code (1 : Nat) (Option.some Jvm.ClassFile.FieldType.int)) ∈ lw_all := lw_g (lw_at lw_m1 198 rfl) rfl
theorem q210 : (Jvm.Cond.instanceMethod ({ cls := "WeaveStoreModel", name := "length", desc := "(I)I" } : Jvm.MethodName)) ∈ lw_all := lw_g (lw_at lw_m1 200 rfl) rfl
theorem q211 : (Jvm.Cond.selects "WeaveStoreModel" ({ cls := "WeaveStoreModel", name := "length", desc := "(I)I" } : Jvm.MethodName) ({ cls := "WeaveStoreModel", name := "length", desc := "(I)I" } : Jvm.MethodName)) ∈ lw_all := lw_g (lw_at lw_m1 201 rfl) rfl
theorem q212 : (Jvm.Cond.code ({ cls := "WeaveStoreModel", name := "length", desc := "(I)I" } : Jvm.MethodName) prog_3_method_9_code (2 : Nat) (Option.some Jvm.ClassFile.FieldType.int)) ∈ lw_all := lw_g (lw_at lw_m1 202 rfl) rfl
theorem q214 : (Jvm.Cond.instanceMethod ({ cls := "WeaveStoreModel", name := "line", desc := "(II)I" } : Jvm.MethodName)) ∈ lw_all := lw_g (lw_at lw_m1 204 rfl) rfl
theorem q215 : (Jvm.Cond.selects "WeaveStoreModel" ({ cls := "WeaveStoreModel", name := "line", desc := "(II)I" } : Jvm.MethodName) ({ cls := "WeaveStoreModel", name := "line", desc := "(II)I" } : Jvm.MethodName)) ∈ lw_all := lw_g (lw_at lw_m1 205 rfl) rfl
theorem q216 : (Jvm.Cond.code ({ cls := "WeaveStoreModel", name := "line", desc := "(II)I" } : Jvm.MethodName) prog_3_method_11_code (4 : Nat) (Option.some Jvm.ClassFile.FieldType.int)) ∈ lw_all := lw_g (lw_at lw_m1 206 rfl) rfl
theorem q217 : (Jvm.Cond.methodLink "WeaveStoreModel" (56 : Nat) ({ cls := "WeaveStoreModel", name := "at", desc := "(II)I" } : Jvm.MethodName)) ∈ lw_all := lw_g (lw_at lw_m1 207 rfl) rfl
theorem q218 : (Jvm.Cond.privateMethod ({ cls := "WeaveStoreModel", name := "at", desc := "(II)I" } : Jvm.MethodName)) ∈ lw_tbl := lw_at lw_m1 208 rfl
theorem q219 : (Jvm.Cond.instanceMethod ({ cls := "WeaveStoreModel", name := "at", desc := "(II)I" } : Jvm.MethodName)) ∈ lw_all := lw_g (lw_at lw_m1 209 rfl) rfl
theorem q220 : (Jvm.Cond.code ({ cls := "WeaveStoreModel", name := "at", desc := "(II)I" } : Jvm.MethodName) prog_3_method_10_code (3 : Nat) (Option.some Jvm.ClassFile.FieldType.int)) ∈ lw_all := lw_g (lw_at lw_m1 210 rfl) rfl
theorem q222 : (Jvm.Cond.instanceMethod ({ cls := "WeaveStoreModel", name := "origin", desc := "(II)I" } : Jvm.MethodName)) ∈ lw_all := lw_g (lw_at lw_m1 212 rfl) rfl
theorem q223 : (Jvm.Cond.selects "WeaveStoreModel" ({ cls := "WeaveStoreModel", name := "origin", desc := "(II)I" } : Jvm.MethodName) ({ cls := "WeaveStoreModel", name := "origin", desc := "(II)I" } : Jvm.MethodName)) ∈ lw_all := lw_g (lw_at lw_m1 213 rfl) rfl
theorem q224 : (Jvm.Cond.code ({ cls := "WeaveStoreModel", name := "origin", desc := "(II)I" } : Jvm.MethodName) prog_3_method_12_code (4 : Nat) (Option.some Jvm.ClassFile.FieldType.int)) ∈ lw_all := lw_g (lw_at lw_m1 214 rfl) rfl
theorem q226 : (Jvm.Cond.instanceMethod ({ cls := "WeaveStoreModel", name := "base", desc := "(I)I" } : Jvm.MethodName)) ∈ lw_all := lw_g (lw_at lw_m1 216 rfl) rfl
theorem q227 : (Jvm.Cond.selects "WeaveStoreModel" ({ cls := "WeaveStoreModel", name := "base", desc := "(I)I" } : Jvm.MethodName) ({ cls := "WeaveStoreModel", name := "base", desc := "(I)I" } : Jvm.MethodName)) ∈ lw_all := lw_g (lw_at lw_m1 217 rfl) rfl
theorem q228 : (Jvm.Cond.code ({ cls := "WeaveStoreModel", name := "base", desc := "(I)I" } : Jvm.MethodName) prog_3_method_13_code (2 : Nat) (Option.some Jvm.ClassFile.FieldType.int)) ∈ lw_all := lw_g (lw_at lw_m1 218 rfl) rfl
theorem q230 : (Jvm.Cond.instanceMethod ({ cls := "WeaveStoreModel", name := "ancestors", desc := "(I)I" } : Jvm.MethodName)) ∈ lw_all := lw_g (lw_at lw_m1 220 rfl) rfl
theorem q231 : (Jvm.Cond.selects "WeaveStoreModel" ({ cls := "WeaveStoreModel", name := "ancestors", desc := "(I)I" } : Jvm.MethodName) ({ cls := "WeaveStoreModel", name := "ancestors", desc := "(I)I" } : Jvm.MethodName)) ∈ lw_all := lw_g (lw_at lw_m1 221 rfl) rfl
theorem q232 : (Jvm.Cond.code ({ cls := "WeaveStoreModel", name := "ancestors", desc := "(I)I" } : Jvm.MethodName) prog_3_method_14_code (4 : Nat) (Option.some Jvm.ClassFile.FieldType.int)) ∈ lw_all := lw_g (lw_at lw_m1 222 rfl) rfl
theorem q234 : (Jvm.Cond.instanceMethod ({ cls := "WeaveStoreModel", name := "shared", desc := "(II)I" } : Jvm.MethodName)) ∈ lw_all := lw_g (lw_at lw_m1 224 rfl) rfl
theorem q235 : (Jvm.Cond.selects "WeaveStoreModel" ({ cls := "WeaveStoreModel", name := "shared", desc := "(II)I" } : Jvm.MethodName) ({ cls := "WeaveStoreModel", name := "shared", desc := "(II)I" } : Jvm.MethodName)) ∈ lw_all := lw_g (lw_at lw_m1 225 rfl) rfl
theorem q236 : (Jvm.Cond.code ({ cls := "WeaveStoreModel", name := "shared", desc := "(II)I" } : Jvm.MethodName) prog_3_method_16_code (5 : Nat) (Option.some Jvm.ClassFile.FieldType.int)) ∈ lw_all := lw_g (lw_at lw_m1 226 rfl) rfl
theorem q237 : (Jvm.Cond.methodLink "WeaveStoreModel" (60 : Nat) ({ cls := "WeaveStoreModel", name := "find", desc := "(II)I" } : Jvm.MethodName)) ∈ lw_all := lw_g (lw_at lw_m1 227 rfl) rfl
theorem q238 : (Jvm.Cond.privateMethod ({ cls := "WeaveStoreModel", name := "find", desc := "(II)I" } : Jvm.MethodName)) ∈ lw_tbl := lw_at lw_m1 228 rfl
theorem q239 : (Jvm.Cond.instanceMethod ({ cls := "WeaveStoreModel", name := "find", desc := "(II)I" } : Jvm.MethodName)) ∈ lw_all := lw_g (lw_at lw_m1 229 rfl) rfl
theorem q240 : (Jvm.Cond.code ({ cls := "WeaveStoreModel", name := "find", desc := "(II)I" } : Jvm.MethodName) prog_3_method_15_code (4 : Nat) (Option.some Jvm.ClassFile.FieldType.int)) ∈ lw_all := lw_g (lw_at lw_m1 230 rfl) rfl
theorem q242 : (Jvm.Cond.instanceMethod ({ cls := "WeaveStoreModel", name := "placeIn", desc := "(III)I" } : Jvm.MethodName)) ∈ lw_all := lw_g (lw_at lw_m1 232 rfl) rfl
theorem q243 : (Jvm.Cond.selects "WeaveStoreModel" ({ cls := "WeaveStoreModel", name := "placeIn", desc := "(III)I" } : Jvm.MethodName) ({ cls := "WeaveStoreModel", name := "placeIn", desc := "(III)I" } : Jvm.MethodName)) ∈ lw_all := lw_g (lw_at lw_m1 233 rfl) rfl
theorem q244 : (Jvm.Cond.code ({ cls := "WeaveStoreModel", name := "placeIn", desc := "(III)I" } : Jvm.MethodName) prog_3_method_17_code (5 : Nat) (Option.some Jvm.ClassFile.FieldType.int)) ∈ lw_all := lw_g (lw_at lw_m1 234 rfl) rfl
theorem q246 : (Jvm.Cond.instanceMethod ({ cls := "WeaveStoreModel", name := "having", desc := "(II)I" } : Jvm.MethodName)) ∈ lw_all := lw_g (lw_at lw_m1 236 rfl) rfl
theorem q247 : (Jvm.Cond.selects "WeaveStoreModel" ({ cls := "WeaveStoreModel", name := "having", desc := "(II)I" } : Jvm.MethodName) ({ cls := "WeaveStoreModel", name := "having", desc := "(II)I" } : Jvm.MethodName)) ∈ lw_all := lw_g (lw_at lw_m1 237 rfl) rfl
theorem q248 : (Jvm.Cond.code ({ cls := "WeaveStoreModel", name := "having", desc := "(II)I" } : Jvm.MethodName) prog_3_method_18_code (6 : Nat) (Option.some Jvm.ClassFile.FieldType.int)) ∈ lw_all := lw_g (lw_at lw_m1 238 rfl) rfl
theorem q250 : (Jvm.Cond.instanceMethod ({ cls := "WeaveStoreModel", name := "draft", desc := "(I)I" } : Jvm.MethodName)) ∈ lw_all := lw_g (lw_at lw_m2 0 rfl) rfl
theorem q251 : (Jvm.Cond.selects "WeaveStoreModel" ({ cls := "WeaveStoreModel", name := "draft", desc := "(I)I" } : Jvm.MethodName) ({ cls := "WeaveStoreModel", name := "draft", desc := "(I)I" } : Jvm.MethodName)) ∈ lw_all := lw_g (lw_at lw_m2 1 rfl) rfl
theorem q252 : (Jvm.Cond.code ({ cls := "WeaveStoreModel", name := "draft", desc := "(I)I" } : Jvm.MethodName) prog_3_method_19_code (4 : Nat) (Option.some Jvm.ClassFile.FieldType.int)) ∈ lw_all := lw_g (lw_at lw_m2 2 rfl) rfl
theorem in_X1 : ∀ w ∈ wsX10, w ∈ lw_all := lw_in wsX10 [154, 156, 158, 160, 162, 164, 166, 168, 170, 172, 174, 176] (by decide +kernel) (by decide +kernel)
end
section
set_option maxRecDepth 100000
theorem dX1_init_0 : decode cX1_init 0 = .ok (.aload_n 0, 1) := by decide +kernel
theorem dX1_init_1 : decode cX1_init 1 = .ok (.invokespecial 1, 3) := by decide +kernel
theorem dX1_init_4 : decode cX1_init 4 = .ok (.aload_n 0, 1) := by decide +kernel
theorem dX1_init_5 : decode cX1_init 5 = .ok (.bipush 12, 2) := by decide +kernel
theorem dX1_init_7 : decode cX1_init 7 = .ok (.newarray .int, 2) := by decide +kernel
theorem dX1_init_9 : decode cX1_init 9 = .ok (.putfield 7, 3) := by decide +kernel
theorem dX1_init_12 : decode cX1_init 12 = .ok (.aload_n 0, 1) := by decide +kernel
theorem dX1_init_13 : decode cX1_init 13 = .ok (.bipush 12, 2) := by decide +kernel
theorem dX1_init_15 : decode cX1_init 15 = .ok (.newarray .int, 2) := by decide +kernel
theorem dX1_init_17 : decode cX1_init 17 = .ok (.putfield 13, 3) := by decide +kernel
theorem dX1_init_20 : decode cX1_init 20 = .ok (.aload_n 0, 1) := by decide +kernel
theorem dX1_init_21 : decode cX1_init 21 = .ok (.sipush 144, 3) := by decide +kernel
theorem dX1_init_24 : decode cX1_init 24 = .ok (.newarray .int, 2) := by decide +kernel
theorem dX1_init_26 : decode cX1_init 26 = .ok (.putfield 16, 3) := by decide +kernel
theorem dX1_init_29 : decode cX1_init 29 = .ok (.aload_n 0, 1) := by decide +kernel
theorem dX1_init_30 : decode cX1_init 30 = .ok (.bipush 30, 2) := by decide +kernel
theorem dX1_init_32 : decode cX1_init 32 = .ok (.newarray .int, 2) := by decide +kernel
theorem dX1_init_34 : decode cX1_init 34 = .ok (.putfield 19, 3) := by decide +kernel
theorem dX1_init_37 : decode cX1_init 37 = .ok (.aload_n 0, 1) := by decide +kernel
theorem dX1_init_38 : decode cX1_init 38 = .ok (.bipush 30, 2) := by decide +kernel
theorem dX1_init_40 : decode cX1_init 40 = .ok (.newarray .int, 2) := by decide +kernel
theorem dX1_init_42 : decode cX1_init 42 = .ok (.putfield 22, 3) := by decide +kernel
theorem dX1_init_45 : decode cX1_init 45 = .ok (.aload_n 0, 1) := by decide +kernel
theorem dX1_init_46 : decode cX1_init 46 = .ok (.bipush 12, 2) := by decide +kernel
theorem dX1_init_48 : decode cX1_init 48 = .ok (.newarray .int, 2) := by decide +kernel
theorem dX1_init_50 : decode cX1_init 50 = .ok (.putfield 25, 3) := by decide +kernel
theorem dX1_init_53 : decode cX1_init 53 = .ok (.aload_n 0, 1) := by decide +kernel
theorem dX1_init_54 : decode cX1_init 54 = .ok (.iconst 1, 1) := by decide +kernel
theorem dX1_init_55 : decode cX1_init 55 = .ok (.putfield 28, 3) := by decide +kernel
theorem dX1_init_58 : decode cX1_init 58 = .ok (.aload_n 0, 1) := by decide +kernel
theorem dX1_init_59 : decode cX1_init 59 = .ok (.getfield 13, 3) := by decide +kernel
theorem dX1_init_62 : decode cX1_init 62 = .ok (.iconst 0, 1) := by decide +kernel
theorem dX1_init_63 : decode cX1_init 63 = .ok (.iconst (-1), 1) := by decide +kernel
theorem dX1_init_64 : decode cX1_init 64 = .ok (.iastore, 1) := by decide +kernel
theorem dX1_init_65 : decode cX1_init 65 = .ok (.return_, 1) := by decide +kernel
theorem dX1_open_0 : decode cX1_open 0 = .ok (.aload_n 0, 1) := by decide +kernel
theorem dX1_open_1 : decode cX1_open 1 = .ok (.iload_n 1, 1) := by decide +kernel
theorem dX1_open_2 : decode cX1_open 2 = .ok (.invokevirtual 32, 3) := by decide +kernel
theorem dX1_open_5 : decode cX1_open 5 = .ok (.ifCond .ne 5, 3) := by decide +kernel
theorem dX1_open_8 : decode cX1_open 8 = .ok (.iconst (-1), 1) := by decide +kernel
theorem dX1_open_9 : decode cX1_open 9 = .ok (.ireturn, 1) := by decide +kernel
theorem dX1_open_10 : decode cX1_open 10 = .ok (.aload_n 0, 1) := by decide +kernel
theorem dX1_open_11 : decode cX1_open 11 = .ok (.invokevirtual 36, 3) := by decide +kernel
theorem dX1_open_14 : decode cX1_open 14 = .ok (.pop, 1) := by decide +kernel
theorem dX1_open_15 : decode cX1_open 15 = .ok (.aload_n 0, 1) := by decide +kernel
theorem dX1_open_16 : decode cX1_open 16 = .ok (.iconst 1, 1) := by decide +kernel
theorem dX1_open_17 : decode cX1_open 17 = .ok (.putfield 40, 3) := by decide +kernel
theorem dX1_open_20 : decode cX1_open 20 = .ok (.aload_n 0, 1) := by decide +kernel
theorem dX1_open_21 : decode cX1_open 21 = .ok (.iload_n 1, 1) := by decide +kernel
theorem dX1_open_22 : decode cX1_open 22 = .ok (.putfield 44, 3) := by decide +kernel
theorem dX1_open_25 : decode cX1_open 25 = .ok (.aload_n 0, 1) := by decide +kernel
theorem dX1_open_26 : decode cX1_open 26 = .ok (.aload_n 0, 1) := by decide +kernel
theorem dX1_open_27 : decode cX1_open 27 = .ok (.getfield 47, 3) := by decide +kernel
theorem dX1_open_30 : decode cX1_open 30 = .ok (.putfield 50, 3) := by decide +kernel
theorem dX1_open_33 : decode cX1_open 33 = .ok (.aload_n 0, 1) := by decide +kernel
theorem dX1_open_34 : decode cX1_open 34 = .ok (.aload_n 0, 1) := by decide +kernel
theorem dX1_open_35 : decode cX1_open 35 = .ok (.getfield 7, 3) := by decide +kernel
theorem dX1_open_38 : decode cX1_open 38 = .ok (.iload_n 1, 1) := by decide +kernel
theorem dX1_open_39 : decode cX1_open 39 = .ok (.iaload, 1) := by decide +kernel
theorem dX1_open_40 : decode cX1_open 40 = .ok (.putfield 53, 3) := by decide +kernel
theorem dX1_open_43 : decode cX1_open 43 = .ok (.iconst 0, 1) := by decide +kernel
theorem dX1_open_44 : decode cX1_open 44 = .ok (.istore_n 2, 1) := by decide +kernel
theorem dX1_open_45 : decode cX1_open 45 = .ok (.iload_n 2, 1) := by decide +kernel
theorem dX1_open_46 : decode cX1_open 46 = .ok (.aload_n 0, 1) := by decide +kernel
theorem dX1_open_47 : decode cX1_open 47 = .ok (.getfield 53, 3) := by decide +kernel
theorem dX1_open_50 : decode cX1_open 50 = .ok (.if_icmp .ge 26, 3) := by decide +kernel
theorem dX1_open_53 : decode cX1_open 53 = .ok (.aload_n 0, 1) := by decide +kernel
theorem dX1_open_54 : decode cX1_open 54 = .ok (.getfield 25, 3) := by decide +kernel
theorem dX1_open_57 : decode cX1_open 57 = .ok (.iload_n 2, 1) := by decide +kernel
theorem dX1_open_58 : decode cX1_open 58 = .ok (.aload_n 0, 1) := by decide +kernel
theorem dX1_open_59 : decode cX1_open 59 = .ok (.getfield 16, 3) := by decide +kernel
theorem dX1_open_62 : decode cX1_open 62 = .ok (.bipush 12, 2) := by decide +kernel
theorem dX1_open_64 : decode cX1_open 64 = .ok (.iload_n 1, 1) := by decide +kernel
theorem dX1_open_65 : decode cX1_open 65 = .ok (.imul, 1) := by decide +kernel
theorem dX1_open_66 : decode cX1_open 66 = .ok (.iload_n 2, 1) := by decide +kernel
theorem dX1_open_67 : decode cX1_open 67 = .ok (.iadd, 1) := by decide +kernel
theorem dX1_open_68 : decode cX1_open 68 = .ok (.iaload, 1) := by decide +kernel
theorem dX1_open_69 : decode cX1_open 69 = .ok (.iastore, 1) := by decide +kernel
theorem dX1_open_70 : decode cX1_open 70 = .ok (.iinc 2 1, 3) := by decide +kernel
theorem dX1_open_73 : decode cX1_open 73 = .ok (.goto (-28), 3) := by decide +kernel
theorem dX1_open_76 : decode cX1_open 76 = .ok (.aload_n 0, 1) := by decide +kernel
theorem dX1_open_77 : decode cX1_open 77 = .ok (.getfield 53, 3) := by decide +kernel
theorem dX1_open_80 : decode cX1_open 80 = .ok (.ireturn, 1) := by decide +kernel
theorem dX1_version_0 : decode cX1_version 0 = .ok (.iload_n 1, 1) := by decide +kernel
theorem dX1_version_1 : decode cX1_version 1 = .ok (.ifCond .lt 15, 3) := by decide +kernel
theorem dX1_version_4 : decode cX1_version 4 = .ok (.iload_n 1, 1) := by decide +kernel
theorem dX1_version_5 : decode cX1_version 5 = .ok (.aload_n 0, 1) := by decide +kernel
theorem dX1_version_6 : decode cX1_version 6 = .ok (.getfield 28, 3) := by decide +kernel
theorem dX1_version_9 : decode cX1_version 9 = .ok (.if_icmp .ge 7, 3) := by decide +kernel
theorem dX1_version_12 : decode cX1_version 12 = .ok (.iconst 1, 1) := by decide +kernel
theorem dX1_version_13 : decode cX1_version 13 = .ok (.goto 4, 3) := by decide +kernel
theorem dX1_version_16 : decode cX1_version 16 = .ok (.iconst 0, 1) := by decide +kernel
theorem dX1_version_17 : decode cX1_version 17 = .ok (.ireturn, 1) := by decide +kernel
theorem dX1_discard_0 : decode cX1_discard 0 = .ok (.aload_n 0, 1) := by decide +kernel
theorem dX1_discard_1 : decode cX1_discard 1 = .ok (.getfield 40, 3) := by decide +kernel
theorem dX1_discard_4 : decode cX1_discard 4 = .ok (.ifCond .ne 5, 3) := by decide +kernel
theorem dX1_discard_7 : decode cX1_discard 7 = .ok (.iconst 0, 1) := by decide +kernel
theorem dX1_discard_8 : decode cX1_discard 8 = .ok (.ireturn, 1) := by decide +kernel
theorem dX1_discard_9 : decode cX1_discard 9 = .ok (.aload_n 0, 1) := by decide +kernel
theorem dX1_discard_10 : decode cX1_discard 10 = .ok (.iconst 0, 1) := by decide +kernel
theorem dX1_discard_11 : decode cX1_discard 11 = .ok (.putfield 40, 3) := by decide +kernel
theorem dX1_discard_14 : decode cX1_discard 14 = .ok (.aload_n 0, 1) := by decide +kernel
theorem dX1_discard_15 : decode cX1_discard 15 = .ok (.aload_n 0, 1) := by decide +kernel
theorem dX1_discard_16 : decode cX1_discard 16 = .ok (.getfield 50, 3) := by decide +kernel
theorem dX1_discard_19 : decode cX1_discard 19 = .ok (.putfield 47, 3) := by decide +kernel
theorem dX1_discard_22 : decode cX1_discard 22 = .ok (.iconst 1, 1) := by decide +kernel
theorem dX1_discard_23 : decode cX1_discard 23 = .ok (.ireturn, 1) := by decide +kernel
theorem dX1_put_0 : decode cX1_put 0 = .ok (.aload_n 0, 1) := by decide +kernel
theorem dX1_put_1 : decode cX1_put 1 = .ok (.getfield 40, 3) := by decide +kernel
theorem dX1_put_4 : decode cX1_put 4 = .ok (.ifCond .eq 25, 3) := by decide +kernel
theorem dX1_put_7 : decode cX1_put 7 = .ok (.iload_n 2, 1) := by decide +kernel
theorem dX1_put_8 : decode cX1_put 8 = .ok (.ifCond .lt 21, 3) := by decide +kernel
theorem dX1_put_11 : decode cX1_put 11 = .ok (.iload_n 2, 1) := by decide +kernel
theorem dX1_put_12 : decode cX1_put 12 = .ok (.bipush 99, 2) := by decide +kernel
theorem dX1_put_14 : decode cX1_put 14 = .ok (.if_icmp .gt 15, 3) := by decide +kernel
theorem dX1_put_17 : decode cX1_put 17 = .ok (.iload_n 1, 1) := by decide +kernel
theorem dX1_put_18 : decode cX1_put 18 = .ok (.ifCond .lt 11, 3) := by decide +kernel
theorem dX1_put_21 : decode cX1_put 21 = .ok (.iload_n 1, 1) := by decide +kernel
theorem dX1_put_22 : decode cX1_put 22 = .ok (.aload_n 0, 1) := by decide +kernel
theorem dX1_put_23 : decode cX1_put 23 = .ok (.getfield 53, 3) := by decide +kernel
theorem dX1_put_26 : decode cX1_put 26 = .ok (.if_icmp .le 5, 3) := by decide +kernel
theorem dX1_put_29 : decode cX1_put 29 = .ok (.iconst (-1), 1) := by decide +kernel
theorem dX1_put_30 : decode cX1_put 30 = .ok (.ireturn, 1) := by decide +kernel
theorem dX1_put_31 : decode cX1_put 31 = .ok (.aload_n 0, 1) := by decide +kernel
theorem dX1_put_32 : decode cX1_put 32 = .ok (.getfield 53, 3) := by decide +kernel
theorem dX1_put_35 : decode cX1_put 35 = .ok (.bipush 12, 2) := by decide +kernel
theorem dX1_put_37 : decode cX1_put 37 = .ok (.if_icmp .ge 12, 3) := by decide +kernel
theorem dX1_put_40 : decode cX1_put 40 = .ok (.aload_n 0, 1) := by decide +kernel
theorem dX1_put_41 : decode cX1_put 41 = .ok (.getfield 47, 3) := by decide +kernel
theorem dX1_put_44 : decode cX1_put 44 = .ok (.bipush 30, 2) := by decide +kernel
theorem dX1_put_46 : decode cX1_put 46 = .ok (.if_icmp .lt 6, 3) := by decide +kernel
theorem dX1_put_49 : decode cX1_put 49 = .ok (.bipush (-2), 2) := by decide +kernel
theorem dX1_put_51 : decode cX1_put 51 = .ok (.ireturn, 1) := by decide +kernel
theorem dX1_put_52 : decode cX1_put 52 = .ok (.aload_n 0, 1) := by decide +kernel
theorem dX1_put_53 : decode cX1_put 53 = .ok (.getfield 53, 3) := by decide +kernel
theorem dX1_put_56 : decode cX1_put 56 = .ok (.istore_n 3, 1) := by decide +kernel
theorem dX1_put_57 : decode cX1_put 57 = .ok (.iload_n 3, 1) := by decide +kernel
theorem dX1_put_58 : decode cX1_put 58 = .ok (.iload_n 1, 1) := by decide +kernel
theorem dX1_put_59 : decode cX1_put 59 = .ok (.if_icmp .le 23, 3) := by decide +kernel
theorem dX1_put_62 : decode cX1_put 62 = .ok (.aload_n 0, 1) := by decide +kernel
theorem dX1_put_63 : decode cX1_put 63 = .ok (.getfield 25, 3) := by decide +kernel
theorem dX1_put_66 : decode cX1_put 66 = .ok (.iload_n 3, 1) := by decide +kernel
theorem dX1_put_67 : decode cX1_put 67 = .ok (.aload_n 0, 1) := by decide +kernel
theorem dX1_put_68 : decode cX1_put 68 = .ok (.getfield 25, 3) := by decide +kernel
theorem dX1_put_71 : decode cX1_put 71 = .ok (.iload_n 3, 1) := by decide +kernel
theorem dX1_put_72 : decode cX1_put 72 = .ok (.iconst 1, 1) := by decide +kernel
theorem dX1_put_73 : decode cX1_put 73 = .ok (.isub, 1) := by decide +kernel
theorem dX1_put_74 : decode cX1_put 74 = .ok (.iaload, 1) := by decide +kernel
theorem dX1_put_75 : decode cX1_put 75 = .ok (.iastore, 1) := by decide +kernel
theorem dX1_put_76 : decode cX1_put 76 = .ok (.iinc 3 (-1), 3) := by decide +kernel
theorem dX1_put_79 : decode cX1_put 79 = .ok (.goto (-22), 3) := by decide +kernel
theorem dX1_put_82 : decode cX1_put 82 = .ok (.aload_n 0, 1) := by decide +kernel
theorem dX1_put_83 : decode cX1_put 83 = .ok (.getfield 25, 3) := by decide +kernel
theorem dX1_put_86 : decode cX1_put 86 = .ok (.iload_n 1, 1) := by decide +kernel
theorem dX1_put_87 : decode cX1_put 87 = .ok (.aload_n 0, 1) := by decide +kernel
theorem dX1_put_88 : decode cX1_put 88 = .ok (.getfield 47, 3) := by decide +kernel
theorem dX1_put_91 : decode cX1_put 91 = .ok (.iastore, 1) := by decide +kernel
theorem dX1_put_92 : decode cX1_put 92 = .ok (.aload_n 0, 1) := by decide +kernel
theorem dX1_put_93 : decode cX1_put 93 = .ok (.getfield 19, 3) := by decide +kernel
theorem dX1_put_96 : decode cX1_put 96 = .ok (.aload_n 0, 1) := by decide +kernel
theorem dX1_put_97 : decode cX1_put 97 = .ok (.getfield 47, 3) := by decide +kernel
theorem dX1_put_100 : decode cX1_put 100 = .ok (.iload_n 2, 1) := by decide +kernel
theorem dX1_put_101 : decode cX1_put 101 = .ok (.iastore, 1) := by decide +kernel
theorem dX1_put_102 : decode cX1_put 102 = .ok (.aload_n 0, 1) := by decide +kernel
theorem dX1_put_103 : decode cX1_put 103 = .ok (.getfield 22, 3) := by decide +kernel
theorem dX1_put_106 : decode cX1_put 106 = .ok (.aload_n 0, 1) := by decide +kernel
theorem dX1_put_107 : decode cX1_put 107 = .ok (.getfield 47, 3) := by decide +kernel
theorem dX1_put_110 : decode cX1_put 110 = .ok (.aload_n 0, 1) := by decide +kernel
theorem dX1_put_111 : decode cX1_put 111 = .ok (.getfield 28, 3) := by decide +kernel
theorem dX1_put_114 : decode cX1_put 114 = .ok (.iastore, 1) := by decide +kernel
theorem dX1_put_115 : decode cX1_put 115 = .ok (.aload_n 0, 1) := by decide +kernel
theorem dX1_put_116 : decode cX1_put 116 = .ok (.dup, 1) := by decide +kernel
theorem dX1_put_117 : decode cX1_put 117 = .ok (.getfield 47, 3) := by decide +kernel
theorem dX1_put_120 : decode cX1_put 120 = .ok (.iconst 1, 1) := by decide +kernel
theorem dX1_put_121 : decode cX1_put 121 = .ok (.iadd, 1) := by decide +kernel
theorem dX1_put_122 : decode cX1_put 122 = .ok (.putfield 47, 3) := by decide +kernel
theorem dX1_put_125 : decode cX1_put 125 = .ok (.aload_n 0, 1) := by decide +kernel
theorem dX1_put_126 : decode cX1_put 126 = .ok (.dup, 1) := by decide +kernel
theorem dX1_put_127 : decode cX1_put 127 = .ok (.getfield 53, 3) := by decide +kernel
theorem dX1_put_130 : decode cX1_put 130 = .ok (.iconst 1, 1) := by decide +kernel
theorem dX1_put_131 : decode cX1_put 131 = .ok (.iadd, 1) := by decide +kernel
theorem dX1_put_132 : decode cX1_put 132 = .ok (.putfield 53, 3) := by decide +kernel
theorem dX1_put_135 : decode cX1_put 135 = .ok (.aload_n 0, 1) := by decide +kernel
theorem dX1_put_136 : decode cX1_put 136 = .ok (.getfield 53, 3) := by decide +kernel
theorem dX1_put_139 : decode cX1_put 139 = .ok (.ireturn, 1) := by decide +kernel
theorem dX1_cut_0 : decode cX1_cut 0 = .ok (.aload_n 0, 1) := by decide +kernel
theorem dX1_cut_1 : decode cX1_cut 1 = .ok (.getfield 40, 3) := by decide +kernel
theorem dX1_cut_4 : decode cX1_cut 4 = .ok (.ifCond .eq 15, 3) := by decide +kernel
theorem dX1_cut_7 : decode cX1_cut 7 = .ok (.iload_n 1, 1) := by decide +kernel
theorem dX1_cut_8 : decode cX1_cut 8 = .ok (.ifCond .lt 11, 3) := by decide +kernel
theorem dX1_cut_11 : decode cX1_cut 11 = .ok (.iload_n 1, 1) := by decide +kernel
theorem dX1_cut_12 : decode cX1_cut 12 = .ok (.aload_n 0, 1) := by decide +kernel
theorem dX1_cut_13 : decode cX1_cut 13 = .ok (.getfield 53, 3) := by decide +kernel
theorem dX1_cut_16 : decode cX1_cut 16 = .ok (.if_icmp .lt 5, 3) := by decide +kernel
theorem dX1_cut_19 : decode cX1_cut 19 = .ok (.iconst (-1), 1) := by decide +kernel
theorem dX1_cut_20 : decode cX1_cut 20 = .ok (.ireturn, 1) := by decide +kernel
theorem dX1_cut_21 : decode cX1_cut 21 = .ok (.aload_n 0, 1) := by decide +kernel
theorem dX1_cut_22 : decode cX1_cut 22 = .ok (.getfield 19, 3) := by decide +kernel
theorem dX1_cut_25 : decode cX1_cut 25 = .ok (.aload_n 0, 1) := by decide +kernel
theorem dX1_cut_26 : decode cX1_cut 26 = .ok (.getfield 25, 3) := by decide +kernel
theorem dX1_cut_29 : decode cX1_cut 29 = .ok (.iload_n 1, 1) := by decide +kernel
theorem dX1_cut_30 : decode cX1_cut 30 = .ok (.iaload, 1) := by decide +kernel
theorem dX1_cut_31 : decode cX1_cut 31 = .ok (.iaload, 1) := by decide +kernel
theorem dX1_cut_32 : decode cX1_cut 32 = .ok (.istore_n 2, 1) := by decide +kernel
theorem dX1_cut_33 : decode cX1_cut 33 = .ok (.aload_n 0, 1) := by decide +kernel
theorem dX1_cut_34 : decode cX1_cut 34 = .ok (.dup, 1) := by decide +kernel
theorem dX1_cut_35 : decode cX1_cut 35 = .ok (.getfield 53, 3) := by decide +kernel
theorem dX1_cut_38 : decode cX1_cut 38 = .ok (.iconst 1, 1) := by decide +kernel
theorem dX1_cut_39 : decode cX1_cut 39 = .ok (.isub, 1) := by decide +kernel
theorem dX1_cut_40 : decode cX1_cut 40 = .ok (.putfield 53, 3) := by decide +kernel
theorem dX1_cut_43 : decode cX1_cut 43 = .ok (.iload_n 1, 1) := by decide +kernel
theorem dX1_cut_44 : decode cX1_cut 44 = .ok (.istore_n 3, 1) := by decide +kernel
theorem dX1_cut_45 : decode cX1_cut 45 = .ok (.iload_n 3, 1) := by decide +kernel
theorem dX1_cut_46 : decode cX1_cut 46 = .ok (.aload_n 0, 1) := by decide +kernel
theorem dX1_cut_47 : decode cX1_cut 47 = .ok (.getfield 53, 3) := by decide +kernel
theorem dX1_cut_50 : decode cX1_cut 50 = .ok (.if_icmp .ge 23, 3) := by decide +kernel
theorem dX1_cut_53 : decode cX1_cut 53 = .ok (.aload_n 0, 1) := by decide +kernel
theorem dX1_cut_54 : decode cX1_cut 54 = .ok (.getfield 25, 3) := by decide +kernel
theorem dX1_cut_57 : decode cX1_cut 57 = .ok (.iload_n 3, 1) := by decide +kernel
theorem dX1_cut_58 : decode cX1_cut 58 = .ok (.aload_n 0, 1) := by decide +kernel
theorem dX1_cut_59 : decode cX1_cut 59 = .ok (.getfield 25, 3) := by decide +kernel
theorem dX1_cut_62 : decode cX1_cut 62 = .ok (.iload_n 3, 1) := by decide +kernel
theorem dX1_cut_63 : decode cX1_cut 63 = .ok (.iconst 1, 1) := by decide +kernel
theorem dX1_cut_64 : decode cX1_cut 64 = .ok (.iadd, 1) := by decide +kernel
theorem dX1_cut_65 : decode cX1_cut 65 = .ok (.iaload, 1) := by decide +kernel
theorem dX1_cut_66 : decode cX1_cut 66 = .ok (.iastore, 1) := by decide +kernel
theorem dX1_cut_67 : decode cX1_cut 67 = .ok (.iinc 3 1, 3) := by decide +kernel
theorem dX1_cut_70 : decode cX1_cut 70 = .ok (.goto (-25), 3) := by decide +kernel
theorem dX1_cut_73 : decode cX1_cut 73 = .ok (.iload_n 2, 1) := by decide +kernel
theorem dX1_cut_74 : decode cX1_cut 74 = .ok (.ireturn, 1) := by decide +kernel
theorem dX1_close_0 : decode cX1_close 0 = .ok (.aload_n 0, 1) := by decide +kernel
theorem dX1_close_1 : decode cX1_close 1 = .ok (.getfield 40, 3) := by decide +kernel
theorem dX1_close_4 : decode cX1_close 4 = .ok (.ifCond .ne 5, 3) := by decide +kernel
theorem dX1_close_7 : decode cX1_close 7 = .ok (.iconst (-1), 1) := by decide +kernel
theorem dX1_close_8 : decode cX1_close 8 = .ok (.ireturn, 1) := by decide +kernel
theorem dX1_close_9 : decode cX1_close 9 = .ok (.aload_n 0, 1) := by decide +kernel
theorem dX1_close_10 : decode cX1_close 10 = .ok (.getfield 28, 3) := by decide +kernel
theorem dX1_close_13 : decode cX1_close 13 = .ok (.bipush 12, 2) := by decide +kernel
theorem dX1_close_15 : decode cX1_close 15 = .ok (.if_icmp .lt 6, 3) := by decide +kernel
theorem dX1_close_18 : decode cX1_close 18 = .ok (.bipush (-2), 2) := by decide +kernel
theorem dX1_close_20 : decode cX1_close 20 = .ok (.ireturn, 1) := by decide +kernel
theorem dX1_close_21 : decode cX1_close 21 = .ok (.aload_n 0, 1) := by decide +kernel
theorem dX1_close_22 : decode cX1_close 22 = .ok (.getfield 7, 3) := by decide +kernel
theorem dX1_close_25 : decode cX1_close 25 = .ok (.aload_n 0, 1) := by decide +kernel
theorem dX1_close_26 : decode cX1_close 26 = .ok (.getfield 28, 3) := by decide +kernel
theorem dX1_close_29 : decode cX1_close 29 = .ok (.aload_n 0, 1) := by decide +kernel
theorem dX1_close_30 : decode cX1_close 30 = .ok (.getfield 53, 3) := by decide +kernel
theorem dX1_close_33 : decode cX1_close 33 = .ok (.iastore, 1) := by decide +kernel
theorem dX1_close_34 : decode cX1_close 34 = .ok (.aload_n 0, 1) := by decide +kernel
theorem dX1_close_35 : decode cX1_close 35 = .ok (.getfield 13, 3) := by decide +kernel
theorem dX1_close_38 : decode cX1_close 38 = .ok (.aload_n 0, 1) := by decide +kernel
theorem dX1_close_39 : decode cX1_close 39 = .ok (.getfield 28, 3) := by decide +kernel
theorem dX1_close_42 : decode cX1_close 42 = .ok (.aload_n 0, 1) := by decide +kernel
theorem dX1_close_43 : decode cX1_close 43 = .ok (.getfield 44, 3) := by decide +kernel
theorem dX1_close_46 : decode cX1_close 46 = .ok (.iastore, 1) := by decide +kernel
theorem dX1_close_47 : decode cX1_close 47 = .ok (.iconst 0, 1) := by decide +kernel
theorem dX1_close_48 : decode cX1_close 48 = .ok (.istore_n 1, 1) := by decide +kernel
theorem dX1_close_49 : decode cX1_close 49 = .ok (.iload_n 1, 1) := by decide +kernel
theorem dX1_close_50 : decode cX1_close 50 = .ok (.aload_n 0, 1) := by decide +kernel
theorem dX1_close_51 : decode cX1_close 51 = .ok (.getfield 53, 3) := by decide +kernel
theorem dX1_close_54 : decode cX1_close 54 = .ok (.if_icmp .ge 29, 3) := by decide +kernel
theorem dX1_close_57 : decode cX1_close 57 = .ok (.aload_n 0, 1) := by decide +kernel
theorem dX1_close_58 : decode cX1_close 58 = .ok (.getfield 16, 3) := by decide +kernel
theorem dX1_close_61 : decode cX1_close 61 = .ok (.bipush 12, 2) := by decide +kernel
theorem dX1_close_63 : decode cX1_close 63 = .ok (.aload_n 0, 1) := by decide +kernel
theorem dX1_close_64 : decode cX1_close 64 = .ok (.getfield 28, 3) := by decide +kernel
theorem dX1_close_67 : decode cX1_close 67 = .ok (.imul, 1) := by decide +kernel
theorem dX1_close_68 : decode cX1_close 68 = .ok (.iload_n 1, 1) := by decide +kernel
theorem dX1_close_69 : decode cX1_close 69 = .ok (.iadd, 1) := by decide +kernel
theorem dX1_close_70 : decode cX1_close 70 = .ok (.aload_n 0, 1) := by decide +kernel
theorem dX1_close_71 : decode cX1_close 71 = .ok (.getfield 25, 3) := by decide +kernel
theorem dX1_close_74 : decode cX1_close 74 = .ok (.iload_n 1, 1) := by decide +kernel
theorem dX1_close_75 : decode cX1_close 75 = .ok (.iaload, 1) := by decide +kernel
theorem dX1_close_76 : decode cX1_close 76 = .ok (.iastore, 1) := by decide +kernel
theorem dX1_close_77 : decode cX1_close 77 = .ok (.iinc 1 1, 3) := by decide +kernel
theorem dX1_close_80 : decode cX1_close 80 = .ok (.goto (-31), 3) := by decide +kernel
theorem dX1_close_83 : decode cX1_close 83 = .ok (.aload_n 0, 1) := by decide +kernel
theorem dX1_close_84 : decode cX1_close 84 = .ok (.iconst 0, 1) := by decide +kernel
end
section
set_option maxRecDepth 100000
theorem dX1_close_85 : decode cX1_close 85 = .ok (.putfield 40, 3) := by decide +kernel
theorem dX1_close_88 : decode cX1_close 88 = .ok (.aload_n 0, 1) := by decide +kernel
theorem dX1_close_89 : decode cX1_close 89 = .ok (.dup, 1) := by decide +kernel
theorem dX1_close_90 : decode cX1_close 90 = .ok (.getfield 28, 3) := by decide +kernel
theorem dX1_close_93 : decode cX1_close 93 = .ok (.iconst 1, 1) := by decide +kernel
theorem dX1_close_94 : decode cX1_close 94 = .ok (.iadd, 1) := by decide +kernel
theorem dX1_close_95 : decode cX1_close 95 = .ok (.putfield 28, 3) := by decide +kernel
theorem dX1_close_98 : decode cX1_close 98 = .ok (.aload_n 0, 1) := by decide +kernel
theorem dX1_close_99 : decode cX1_close 99 = .ok (.getfield 28, 3) := by decide +kernel
theorem dX1_close_102 : decode cX1_close 102 = .ok (.iconst 1, 1) := by decide +kernel
theorem dX1_close_103 : decode cX1_close 103 = .ok (.isub, 1) := by decide +kernel
theorem dX1_close_104 : decode cX1_close 104 = .ok (.ireturn, 1) := by decide +kernel
theorem dX1_versions_0 : decode cX1_versions 0 = .ok (.aload_n 0, 1) := by decide +kernel
theorem dX1_versions_1 : decode cX1_versions 1 = .ok (.getfield 28, 3) := by decide +kernel
theorem dX1_versions_4 : decode cX1_versions 4 = .ok (.ireturn, 1) := by decide +kernel
theorem dX1_length_0 : decode cX1_length 0 = .ok (.aload_n 0, 1) := by decide +kernel
theorem dX1_length_1 : decode cX1_length 1 = .ok (.iload_n 1, 1) := by decide +kernel
theorem dX1_length_2 : decode cX1_length 2 = .ok (.invokevirtual 32, 3) := by decide +kernel
theorem dX1_length_5 : decode cX1_length 5 = .ok (.ifCond .eq 12, 3) := by decide +kernel
theorem dX1_length_8 : decode cX1_length 8 = .ok (.aload_n 0, 1) := by decide +kernel
theorem dX1_length_9 : decode cX1_length 9 = .ok (.getfield 7, 3) := by decide +kernel
theorem dX1_length_12 : decode cX1_length 12 = .ok (.iload_n 1, 1) := by decide +kernel
theorem dX1_length_13 : decode cX1_length 13 = .ok (.iaload, 1) := by decide +kernel
theorem dX1_length_14 : decode cX1_length 14 = .ok (.goto 4, 3) := by decide +kernel
theorem dX1_length_17 : decode cX1_length 17 = .ok (.iconst (-1), 1) := by decide +kernel
theorem dX1_length_18 : decode cX1_length 18 = .ok (.ireturn, 1) := by decide +kernel
theorem dX1_line_0 : decode cX1_line 0 = .ok (.aload_n 0, 1) := by decide +kernel
theorem dX1_line_1 : decode cX1_line 1 = .ok (.iload_n 1, 1) := by decide +kernel
theorem dX1_line_2 : decode cX1_line 2 = .ok (.iload_n 2, 1) := by decide +kernel
theorem dX1_line_3 : decode cX1_line 3 = .ok (.invokevirtual 56, 3) := by decide +kernel
theorem dX1_line_6 : decode cX1_line 6 = .ok (.istore_n 3, 1) := by decide +kernel
theorem dX1_line_7 : decode cX1_line 7 = .ok (.iload_n 3, 1) := by decide +kernel
theorem dX1_line_8 : decode cX1_line 8 = .ok (.ifCond .ge 7, 3) := by decide +kernel
theorem dX1_line_11 : decode cX1_line 11 = .ok (.iconst (-1), 1) := by decide +kernel
theorem dX1_line_12 : decode cX1_line 12 = .ok (.goto 9, 3) := by decide +kernel
theorem dX1_line_15 : decode cX1_line 15 = .ok (.aload_n 0, 1) := by decide +kernel
theorem dX1_line_16 : decode cX1_line 16 = .ok (.getfield 19, 3) := by decide +kernel
theorem dX1_line_19 : decode cX1_line 19 = .ok (.iload_n 3, 1) := by decide +kernel
theorem dX1_line_20 : decode cX1_line 20 = .ok (.iaload, 1) := by decide +kernel
theorem dX1_line_21 : decode cX1_line 21 = .ok (.ireturn, 1) := by decide +kernel
theorem dX1_at_0 : decode cX1_at 0 = .ok (.aload_n 0, 1) := by decide +kernel
theorem dX1_at_1 : decode cX1_at 1 = .ok (.iload_n 1, 1) := by decide +kernel
theorem dX1_at_2 : decode cX1_at 2 = .ok (.invokevirtual 32, 3) := by decide +kernel
theorem dX1_at_5 : decode cX1_at 5 = .ok (.ifCond .eq 31, 3) := by decide +kernel
theorem dX1_at_8 : decode cX1_at 8 = .ok (.iload_n 2, 1) := by decide +kernel
theorem dX1_at_9 : decode cX1_at 9 = .ok (.ifCond .lt 27, 3) := by decide +kernel
theorem dX1_at_12 : decode cX1_at 12 = .ok (.iload_n 2, 1) := by decide +kernel
theorem dX1_at_13 : decode cX1_at 13 = .ok (.aload_n 0, 1) := by decide +kernel
theorem dX1_at_14 : decode cX1_at 14 = .ok (.getfield 7, 3) := by decide +kernel
theorem dX1_at_17 : decode cX1_at 17 = .ok (.iload_n 1, 1) := by decide +kernel
theorem dX1_at_18 : decode cX1_at 18 = .ok (.iaload, 1) := by decide +kernel
theorem dX1_at_19 : decode cX1_at 19 = .ok (.if_icmp .ge 17, 3) := by decide +kernel
theorem dX1_at_22 : decode cX1_at 22 = .ok (.aload_n 0, 1) := by decide +kernel
theorem dX1_at_23 : decode cX1_at 23 = .ok (.getfield 16, 3) := by decide +kernel
theorem dX1_at_26 : decode cX1_at 26 = .ok (.bipush 12, 2) := by decide +kernel
theorem dX1_at_28 : decode cX1_at 28 = .ok (.iload_n 1, 1) := by decide +kernel
theorem dX1_at_29 : decode cX1_at 29 = .ok (.imul, 1) := by decide +kernel
theorem dX1_at_30 : decode cX1_at 30 = .ok (.iload_n 2, 1) := by decide +kernel
theorem dX1_at_31 : decode cX1_at 31 = .ok (.iadd, 1) := by decide +kernel
theorem dX1_at_32 : decode cX1_at 32 = .ok (.iaload, 1) := by decide +kernel
theorem dX1_at_33 : decode cX1_at 33 = .ok (.goto 4, 3) := by decide +kernel
theorem dX1_at_36 : decode cX1_at 36 = .ok (.iconst (-1), 1) := by decide +kernel
theorem dX1_at_37 : decode cX1_at 37 = .ok (.ireturn, 1) := by decide +kernel
theorem dX1_origin_0 : decode cX1_origin 0 = .ok (.aload_n 0, 1) := by decide +kernel
theorem dX1_origin_1 : decode cX1_origin 1 = .ok (.iload_n 1, 1) := by decide +kernel
theorem dX1_origin_2 : decode cX1_origin 2 = .ok (.iload_n 2, 1) := by decide +kernel
theorem dX1_origin_3 : decode cX1_origin 3 = .ok (.invokevirtual 56, 3) := by decide +kernel
theorem dX1_origin_6 : decode cX1_origin 6 = .ok (.istore_n 3, 1) := by decide +kernel
theorem dX1_origin_7 : decode cX1_origin 7 = .ok (.iload_n 3, 1) := by decide +kernel
theorem dX1_origin_8 : decode cX1_origin 8 = .ok (.ifCond .ge 7, 3) := by decide +kernel
theorem dX1_origin_11 : decode cX1_origin 11 = .ok (.iconst (-1), 1) := by decide +kernel
theorem dX1_origin_12 : decode cX1_origin 12 = .ok (.goto 9, 3) := by decide +kernel
theorem dX1_origin_15 : decode cX1_origin 15 = .ok (.aload_n 0, 1) := by decide +kernel
theorem dX1_origin_16 : decode cX1_origin 16 = .ok (.getfield 22, 3) := by decide +kernel
theorem dX1_origin_19 : decode cX1_origin 19 = .ok (.iload_n 3, 1) := by decide +kernel
theorem dX1_origin_20 : decode cX1_origin 20 = .ok (.iaload, 1) := by decide +kernel
theorem dX1_origin_21 : decode cX1_origin 21 = .ok (.ireturn, 1) := by decide +kernel
theorem dX1_base_0 : decode cX1_base 0 = .ok (.aload_n 0, 1) := by decide +kernel
theorem dX1_base_1 : decode cX1_base 1 = .ok (.iload_n 1, 1) := by decide +kernel
theorem dX1_base_2 : decode cX1_base 2 = .ok (.invokevirtual 32, 3) := by decide +kernel
theorem dX1_base_5 : decode cX1_base 5 = .ok (.ifCond .eq 12, 3) := by decide +kernel
theorem dX1_base_8 : decode cX1_base 8 = .ok (.aload_n 0, 1) := by decide +kernel
theorem dX1_base_9 : decode cX1_base 9 = .ok (.getfield 13, 3) := by decide +kernel
theorem dX1_base_12 : decode cX1_base 12 = .ok (.iload_n 1, 1) := by decide +kernel
theorem dX1_base_13 : decode cX1_base 13 = .ok (.iaload, 1) := by decide +kernel
theorem dX1_base_14 : decode cX1_base 14 = .ok (.goto 4, 3) := by decide +kernel
theorem dX1_base_17 : decode cX1_base 17 = .ok (.iconst (-1), 1) := by decide +kernel
theorem dX1_base_18 : decode cX1_base 18 = .ok (.ireturn, 1) := by decide +kernel
theorem dX1_ancestors_0 : decode cX1_ancestors 0 = .ok (.iconst 0, 1) := by decide +kernel
theorem dX1_ancestors_1 : decode cX1_ancestors 1 = .ok (.istore_n 2, 1) := by decide +kernel
theorem dX1_ancestors_2 : decode cX1_ancestors 2 = .ok (.aload_n 0, 1) := by decide +kernel
theorem dX1_ancestors_3 : decode cX1_ancestors 3 = .ok (.iload_n 1, 1) := by decide +kernel
theorem dX1_ancestors_4 : decode cX1_ancestors 4 = .ok (.invokevirtual 32, 3) := by decide +kernel
theorem dX1_ancestors_7 : decode cX1_ancestors 7 = .ok (.ifCond .eq 7, 3) := by decide +kernel
theorem dX1_ancestors_10 : decode cX1_ancestors 10 = .ok (.iload_n 1, 1) := by decide +kernel
theorem dX1_ancestors_11 : decode cX1_ancestors 11 = .ok (.goto 4, 3) := by decide +kernel
theorem dX1_ancestors_14 : decode cX1_ancestors 14 = .ok (.iconst (-1), 1) := by decide +kernel
theorem dX1_ancestors_15 : decode cX1_ancestors 15 = .ok (.istore_n 3, 1) := by decide +kernel
theorem dX1_ancestors_16 : decode cX1_ancestors 16 = .ok (.iload_n 3, 1) := by decide +kernel
theorem dX1_ancestors_17 : decode cX1_ancestors 17 = .ok (.ifCond .lt 19, 3) := by decide +kernel
theorem dX1_ancestors_20 : decode cX1_ancestors 20 = .ok (.iload_n 2, 1) := by decide +kernel
theorem dX1_ancestors_21 : decode cX1_ancestors 21 = .ok (.iconst 1, 1) := by decide +kernel
theorem dX1_ancestors_22 : decode cX1_ancestors 22 = .ok (.iload_n 3, 1) := by decide +kernel
theorem dX1_ancestors_23 : decode cX1_ancestors 23 = .ok (.ishl, 1) := by decide +kernel
theorem dX1_ancestors_24 : decode cX1_ancestors 24 = .ok (.ior, 1) := by decide +kernel
theorem dX1_ancestors_25 : decode cX1_ancestors 25 = .ok (.istore_n 2, 1) := by decide +kernel
theorem dX1_ancestors_26 : decode cX1_ancestors 26 = .ok (.aload_n 0, 1) := by decide +kernel
theorem dX1_ancestors_27 : decode cX1_ancestors 27 = .ok (.getfield 13, 3) := by decide +kernel
theorem dX1_ancestors_30 : decode cX1_ancestors 30 = .ok (.iload_n 3, 1) := by decide +kernel
theorem dX1_ancestors_31 : decode cX1_ancestors 31 = .ok (.iaload, 1) := by decide +kernel
theorem dX1_ancestors_32 : decode cX1_ancestors 32 = .ok (.istore_n 3, 1) := by decide +kernel
theorem dX1_ancestors_33 : decode cX1_ancestors 33 = .ok (.goto (-17), 3) := by decide +kernel
theorem dX1_ancestors_36 : decode cX1_ancestors 36 = .ok (.iload_n 2, 1) := by decide +kernel
theorem dX1_ancestors_37 : decode cX1_ancestors 37 = .ok (.ireturn, 1) := by decide +kernel
theorem dX1_shared_0 : decode cX1_shared 0 = .ok (.aload_n 0, 1) := by decide +kernel
theorem dX1_shared_1 : decode cX1_shared 1 = .ok (.iload_n 1, 1) := by decide +kernel
theorem dX1_shared_2 : decode cX1_shared 2 = .ok (.invokevirtual 32, 3) := by decide +kernel
theorem dX1_shared_5 : decode cX1_shared 5 = .ok (.ifCond .eq 11, 3) := by decide +kernel
theorem dX1_shared_8 : decode cX1_shared 8 = .ok (.aload_n 0, 1) := by decide +kernel
theorem dX1_shared_9 : decode cX1_shared 9 = .ok (.iload_n 2, 1) := by decide +kernel
theorem dX1_shared_10 : decode cX1_shared 10 = .ok (.invokevirtual 32, 3) := by decide +kernel
theorem dX1_shared_13 : decode cX1_shared 13 = .ok (.ifCond .ne 5, 3) := by decide +kernel
theorem dX1_shared_16 : decode cX1_shared 16 = .ok (.iconst (-1), 1) := by decide +kernel
theorem dX1_shared_17 : decode cX1_shared 17 = .ok (.ireturn, 1) := by decide +kernel
theorem dX1_shared_18 : decode cX1_shared 18 = .ok (.iconst 0, 1) := by decide +kernel
theorem dX1_shared_19 : decode cX1_shared 19 = .ok (.istore_n 3, 1) := by decide +kernel
theorem dX1_shared_20 : decode cX1_shared 20 = .ok (.iconst 0, 1) := by decide +kernel
theorem dX1_shared_21 : decode cX1_shared 21 = .ok (.istore 4, 2) := by decide +kernel
theorem dX1_shared_23 : decode cX1_shared 23 = .ok (.iload 4, 2) := by decide +kernel
theorem dX1_shared_25 : decode cX1_shared 25 = .ok (.aload_n 0, 1) := by decide +kernel
theorem dX1_shared_26 : decode cX1_shared 26 = .ok (.getfield 7, 3) := by decide +kernel
theorem dX1_shared_29 : decode cX1_shared 29 = .ok (.iload_n 1, 1) := by decide +kernel
theorem dX1_shared_30 : decode cX1_shared 30 = .ok (.iaload, 1) := by decide +kernel
theorem dX1_shared_31 : decode cX1_shared 31 = .ok (.if_icmp .ge 37, 3) := by decide +kernel
theorem dX1_shared_34 : decode cX1_shared 34 = .ok (.aload_n 0, 1) := by decide +kernel
theorem dX1_shared_35 : decode cX1_shared 35 = .ok (.aload_n 0, 1) := by decide +kernel
theorem dX1_shared_36 : decode cX1_shared 36 = .ok (.getfield 16, 3) := by decide +kernel
theorem dX1_shared_39 : decode cX1_shared 39 = .ok (.bipush 12, 2) := by decide +kernel
theorem dX1_shared_41 : decode cX1_shared 41 = .ok (.iload_n 1, 1) := by decide +kernel
theorem dX1_shared_42 : decode cX1_shared 42 = .ok (.imul, 1) := by decide +kernel
theorem dX1_shared_43 : decode cX1_shared 43 = .ok (.iload 4, 2) := by decide +kernel
theorem dX1_shared_45 : decode cX1_shared 45 = .ok (.iadd, 1) := by decide +kernel
theorem dX1_shared_46 : decode cX1_shared 46 = .ok (.iaload, 1) := by decide +kernel
theorem dX1_shared_47 : decode cX1_shared 47 = .ok (.iload_n 2, 1) := by decide +kernel
theorem dX1_shared_48 : decode cX1_shared 48 = .ok (.invokevirtual 60, 3) := by decide +kernel
theorem dX1_shared_51 : decode cX1_shared 51 = .ok (.ifCond .lt 9, 3) := by decide +kernel
theorem dX1_shared_54 : decode cX1_shared 54 = .ok (.iload_n 3, 1) := by decide +kernel
theorem dX1_shared_55 : decode cX1_shared 55 = .ok (.iconst 1, 1) := by decide +kernel
theorem dX1_shared_56 : decode cX1_shared 56 = .ok (.iadd, 1) := by decide +kernel
theorem dX1_shared_57 : decode cX1_shared 57 = .ok (.goto 4, 3) := by decide +kernel
theorem dX1_shared_60 : decode cX1_shared 60 = .ok (.iload_n 3, 1) := by decide +kernel
theorem dX1_shared_61 : decode cX1_shared 61 = .ok (.istore_n 3, 1) := by decide +kernel
theorem dX1_shared_62 : decode cX1_shared 62 = .ok (.iinc 4 1, 3) := by decide +kernel
theorem dX1_shared_65 : decode cX1_shared 65 = .ok (.goto (-42), 3) := by decide +kernel
theorem dX1_shared_68 : decode cX1_shared 68 = .ok (.iload_n 3, 1) := by decide +kernel
theorem dX1_shared_69 : decode cX1_shared 69 = .ok (.ireturn, 1) := by decide +kernel
theorem dX1_find_0 : decode cX1_find 0 = .ok (.iconst 0, 1) := by decide +kernel
theorem dX1_find_1 : decode cX1_find 1 = .ok (.istore_n 3, 1) := by decide +kernel
theorem dX1_find_2 : decode cX1_find 2 = .ok (.iload_n 3, 1) := by decide +kernel
theorem dX1_find_3 : decode cX1_find 3 = .ok (.aload_n 0, 1) := by decide +kernel
theorem dX1_find_4 : decode cX1_find 4 = .ok (.getfield 7, 3) := by decide +kernel
theorem dX1_find_7 : decode cX1_find 7 = .ok (.iload_n 2, 1) := by decide +kernel
theorem dX1_find_8 : decode cX1_find 8 = .ok (.iaload, 1) := by decide +kernel
theorem dX1_find_9 : decode cX1_find 9 = .ok (.if_icmp .ge 26, 3) := by decide +kernel
theorem dX1_find_12 : decode cX1_find 12 = .ok (.aload_n 0, 1) := by decide +kernel
theorem dX1_find_13 : decode cX1_find 13 = .ok (.getfield 16, 3) := by decide +kernel
theorem dX1_find_16 : decode cX1_find 16 = .ok (.bipush 12, 2) := by decide +kernel
theorem dX1_find_18 : decode cX1_find 18 = .ok (.iload_n 2, 1) := by decide +kernel
theorem dX1_find_19 : decode cX1_find 19 = .ok (.imul, 1) := by decide +kernel
theorem dX1_find_20 : decode cX1_find 20 = .ok (.iload_n 3, 1) := by decide +kernel
theorem dX1_find_21 : decode cX1_find 21 = .ok (.iadd, 1) := by decide +kernel
theorem dX1_find_22 : decode cX1_find 22 = .ok (.iaload, 1) := by decide +kernel
theorem dX1_find_23 : decode cX1_find 23 = .ok (.iload_n 1, 1) := by decide +kernel
theorem dX1_find_24 : decode cX1_find 24 = .ok (.if_icmp .ne 5, 3) := by decide +kernel
theorem dX1_find_27 : decode cX1_find 27 = .ok (.iload_n 3, 1) := by decide +kernel
theorem dX1_find_28 : decode cX1_find 28 = .ok (.ireturn, 1) := by decide +kernel
theorem dX1_find_29 : decode cX1_find 29 = .ok (.iinc 3 1, 3) := by decide +kernel
theorem dX1_find_32 : decode cX1_find 32 = .ok (.goto (-30), 3) := by decide +kernel
theorem dX1_find_35 : decode cX1_find 35 = .ok (.iconst (-1), 1) := by decide +kernel
theorem dX1_find_36 : decode cX1_find 36 = .ok (.ireturn, 1) := by decide +kernel
theorem dX1_placeIn_0 : decode cX1_placeIn 0 = .ok (.aload_n 0, 1) := by decide +kernel
theorem dX1_placeIn_1 : decode cX1_placeIn 1 = .ok (.iload_n 1, 1) := by decide +kernel
theorem dX1_placeIn_2 : decode cX1_placeIn 2 = .ok (.iload_n 2, 1) := by decide +kernel
theorem dX1_placeIn_3 : decode cX1_placeIn 3 = .ok (.invokevirtual 56, 3) := by decide +kernel
theorem dX1_placeIn_6 : decode cX1_placeIn 6 = .ok (.istore 4, 2) := by decide +kernel
theorem dX1_placeIn_8 : decode cX1_placeIn 8 = .ok (.iload 4, 2) := by decide +kernel
theorem dX1_placeIn_10 : decode cX1_placeIn 10 = .ok (.ifCond .lt 11, 3) := by decide +kernel
theorem dX1_placeIn_13 : decode cX1_placeIn 13 = .ok (.aload_n 0, 1) := by decide +kernel
theorem dX1_placeIn_14 : decode cX1_placeIn 14 = .ok (.iload_n 3, 1) := by decide +kernel
theorem dX1_placeIn_15 : decode cX1_placeIn 15 = .ok (.invokevirtual 32, 3) := by decide +kernel
theorem dX1_placeIn_18 : decode cX1_placeIn 18 = .ok (.ifCond .ne 7, 3) := by decide +kernel
theorem dX1_placeIn_21 : decode cX1_placeIn 21 = .ok (.iconst (-1), 1) := by decide +kernel
theorem dX1_placeIn_22 : decode cX1_placeIn 22 = .ok (.goto 10, 3) := by decide +kernel
theorem dX1_placeIn_25 : decode cX1_placeIn 25 = .ok (.aload_n 0, 1) := by decide +kernel
theorem dX1_placeIn_26 : decode cX1_placeIn 26 = .ok (.iload 4, 2) := by decide +kernel
theorem dX1_placeIn_28 : decode cX1_placeIn 28 = .ok (.iload_n 3, 1) := by decide +kernel
theorem dX1_placeIn_29 : decode cX1_placeIn 29 = .ok (.invokevirtual 60, 3) := by decide +kernel
theorem dX1_placeIn_32 : decode cX1_placeIn 32 = .ok (.ireturn, 1) := by decide +kernel
theorem dX1_having_0 : decode cX1_having 0 = .ok (.aload_n 0, 1) := by decide +kernel
theorem dX1_having_1 : decode cX1_having 1 = .ok (.iload_n 1, 1) := by decide +kernel
theorem dX1_having_2 : decode cX1_having 2 = .ok (.iload_n 2, 1) := by decide +kernel
theorem dX1_having_3 : decode cX1_having 3 = .ok (.invokevirtual 56, 3) := by decide +kernel
theorem dX1_having_6 : decode cX1_having 6 = .ok (.istore_n 3, 1) := by decide +kernel
theorem dX1_having_7 : decode cX1_having 7 = .ok (.iconst 0, 1) := by decide +kernel
theorem dX1_having_8 : decode cX1_having 8 = .ok (.istore 4, 2) := by decide +kernel
theorem dX1_having_10 : decode cX1_having 10 = .ok (.iconst 0, 1) := by decide +kernel
theorem dX1_having_11 : decode cX1_having 11 = .ok (.istore 5, 2) := by decide +kernel
theorem dX1_having_13 : decode cX1_having 13 = .ok (.iload 5, 2) := by decide +kernel
theorem dX1_having_15 : decode cX1_having 15 = .ok (.aload_n 0, 1) := by decide +kernel
theorem dX1_having_16 : decode cX1_having 16 = .ok (.getfield 28, 3) := by decide +kernel
theorem dX1_having_19 : decode cX1_having 19 = .ok (.if_icmp .ge 37, 3) := by decide +kernel
theorem dX1_having_22 : decode cX1_having 22 = .ok (.iload_n 3, 1) := by decide +kernel
theorem dX1_having_23 : decode cX1_having 23 = .ok (.ifCond .lt 33, 3) := by decide +kernel
theorem dX1_having_26 : decode cX1_having 26 = .ok (.aload_n 0, 1) := by decide +kernel
theorem dX1_having_27 : decode cX1_having 27 = .ok (.iload_n 3, 1) := by decide +kernel
theorem dX1_having_28 : decode cX1_having 28 = .ok (.iload 5, 2) := by decide +kernel
theorem dX1_having_30 : decode cX1_having 30 = .ok (.invokevirtual 60, 3) := by decide +kernel
theorem dX1_having_33 : decode cX1_having 33 = .ok (.ifCond .lt 13, 3) := by decide +kernel
theorem dX1_having_36 : decode cX1_having 36 = .ok (.iload 4, 2) := by decide +kernel
theorem dX1_having_38 : decode cX1_having 38 = .ok (.iconst 1, 1) := by decide +kernel
theorem dX1_having_39 : decode cX1_having 39 = .ok (.iload 5, 2) := by decide +kernel
theorem dX1_having_41 : decode cX1_having 41 = .ok (.ishl, 1) := by decide +kernel
theorem dX1_having_42 : decode cX1_having 42 = .ok (.ior, 1) := by decide +kernel
theorem dX1_having_43 : decode cX1_having 43 = .ok (.goto 5, 3) := by decide +kernel
theorem dX1_having_46 : decode cX1_having 46 = .ok (.iload 4, 2) := by decide +kernel
theorem dX1_having_48 : decode cX1_having 48 = .ok (.istore 4, 2) := by decide +kernel
theorem dX1_having_50 : decode cX1_having 50 = .ok (.iinc 5 1, 3) := by decide +kernel
theorem dX1_having_53 : decode cX1_having 53 = .ok (.goto (-40), 3) := by decide +kernel
theorem dX1_having_56 : decode cX1_having 56 = .ok (.iload 4, 2) := by decide +kernel
theorem dX1_having_58 : decode cX1_having 58 = .ok (.ireturn, 1) := by decide +kernel
theorem dX1_draft_0 : decode cX1_draft 0 = .ok (.aload_n 0, 1) := by decide +kernel
theorem dX1_draft_1 : decode cX1_draft 1 = .ok (.getfield 40, 3) := by decide +kernel
theorem dX1_draft_4 : decode cX1_draft 4 = .ok (.ifCond .eq 12, 3) := by decide +kernel
theorem dX1_draft_7 : decode cX1_draft 7 = .ok (.iload_n 1, 1) := by decide +kernel
theorem dX1_draft_8 : decode cX1_draft 8 = .ok (.ifCond .lt 8, 3) := by decide +kernel
theorem dX1_draft_11 : decode cX1_draft 11 = .ok (.iload_n 1, 1) := by decide +kernel
theorem dX1_draft_12 : decode cX1_draft 12 = .ok (.iconst 2, 1) := by decide +kernel
theorem dX1_draft_13 : decode cX1_draft 13 = .ok (.if_icmp .le 5, 3) := by decide +kernel
theorem dX1_draft_16 : decode cX1_draft 16 = .ok (.iconst (-1), 1) := by decide +kernel
theorem dX1_draft_17 : decode cX1_draft 17 = .ok (.ireturn, 1) := by decide +kernel
theorem dX1_draft_18 : decode cX1_draft 18 = .ok (.iconst 0, 1) := by decide +kernel
theorem dX1_draft_19 : decode cX1_draft 19 = .ok (.istore_n 2, 1) := by decide +kernel
theorem dX1_draft_20 : decode cX1_draft 20 = .ok (.iconst 0, 1) := by decide +kernel
theorem dX1_draft_21 : decode cX1_draft 21 = .ok (.istore_n 3, 1) := by decide +kernel
theorem dX1_draft_22 : decode cX1_draft 22 = .ok (.iload_n 3, 1) := by decide +kernel
theorem dX1_draft_23 : decode cX1_draft 23 = .ok (.aload_n 0, 1) := by decide +kernel
theorem dX1_draft_24 : decode cX1_draft 24 = .ok (.getfield 53, 3) := by decide +kernel
theorem dX1_draft_27 : decode cX1_draft 27 = .ok (.if_icmp .ge 30, 3) := by decide +kernel
theorem dX1_draft_30 : decode cX1_draft 30 = .ok (.aload_n 0, 1) := by decide +kernel
theorem dX1_draft_31 : decode cX1_draft 31 = .ok (.getfield 25, 3) := by decide +kernel
theorem dX1_draft_34 : decode cX1_draft 34 = .ok (.iload_n 3, 1) := by decide +kernel
theorem dX1_draft_35 : decode cX1_draft 35 = .ok (.iaload, 1) := by decide +kernel
theorem dX1_draft_36 : decode cX1_draft 36 = .ok (.aload_n 0, 1) := by decide +kernel
theorem dX1_draft_37 : decode cX1_draft 37 = .ok (.getfield 50, 3) := by decide +kernel
theorem dX1_draft_40 : decode cX1_draft 40 = .ok (.if_icmp .lt 9, 3) := by decide +kernel
theorem dX1_draft_43 : decode cX1_draft 43 = .ok (.iload_n 2, 1) := by decide +kernel
theorem dX1_draft_44 : decode cX1_draft 44 = .ok (.iconst 1, 1) := by decide +kernel
theorem dX1_draft_45 : decode cX1_draft 45 = .ok (.iadd, 1) := by decide +kernel
theorem dX1_draft_46 : decode cX1_draft 46 = .ok (.goto 4, 3) := by decide +kernel
theorem dX1_draft_49 : decode cX1_draft 49 = .ok (.iload_n 2, 1) := by decide +kernel
theorem dX1_draft_50 : decode cX1_draft 50 = .ok (.istore_n 2, 1) := by decide +kernel
theorem dX1_draft_51 : decode cX1_draft 51 = .ok (.iinc 3 1, 3) := by decide +kernel
theorem dX1_draft_54 : decode cX1_draft 54 = .ok (.goto (-32), 3) := by decide +kernel
theorem dX1_draft_57 : decode cX1_draft 57 = .ok (.iload_n 1, 1) := by decide +kernel
theorem dX1_draft_58 : decode cX1_draft 58 = .ok (.ifCond .ne 10, 3) := by decide +kernel
theorem dX1_draft_61 : decode cX1_draft 61 = .ok (.aload_n 0, 1) := by decide +kernel
theorem dX1_draft_62 : decode cX1_draft 62 = .ok (.getfield 53, 3) := by decide +kernel
theorem dX1_draft_65 : decode cX1_draft 65 = .ok (.goto 18, 3) := by decide +kernel
theorem dX1_draft_68 : decode cX1_draft 68 = .ok (.iload_n 1, 1) := by decide +kernel
theorem dX1_draft_69 : decode cX1_draft 69 = .ok (.iconst 1, 1) := by decide +kernel
theorem dX1_draft_70 : decode cX1_draft 70 = .ok (.if_icmp .ne 12, 3) := by decide +kernel
theorem dX1_draft_73 : decode cX1_draft 73 = .ok (.aload_n 0, 1) := by decide +kernel
theorem dX1_draft_74 : decode cX1_draft 74 = .ok (.getfield 53, 3) := by decide +kernel
theorem dX1_draft_77 : decode cX1_draft 77 = .ok (.iload_n 2, 1) := by decide +kernel
theorem dX1_draft_78 : decode cX1_draft 78 = .ok (.isub, 1) := by decide +kernel
theorem dX1_draft_79 : decode cX1_draft 79 = .ok (.goto 4, 3) := by decide +kernel
theorem dX1_draft_82 : decode cX1_draft 82 = .ok (.iload_n 2, 1) := by decide +kernel
theorem dX1_draft_83 : decode cX1_draft 83 = .ok (.ireturn, 1) := by decide +kernel
end
section
set_option maxRecDepth 100000
/-! the law's own entry -/
set_option maxRecDepth 100000
abbrev cL_law : ByteArray := code
theorem dL_law_0 : decode cL_law 0 = .ok (.new 7, 3) := by decide +kernel
theorem dL_law_3 : decode cL_law 3 = .ok (.dup, 1) := by decide +kernel
theorem dL_law_4 : decode cL_law 4 = .ok (.invokespecial 9, 3) := by decide +kernel
theorem dL_law_7 : decode cL_law 7 = .ok (.astore_n 1, 1) := by decide +kernel
theorem dL_law_8 : decode cL_law 8 = .ok (.new 10, 3) := by decide +kernel
theorem dL_law_11 : decode cL_law 11 = .ok (.dup, 1) := by decide +kernel
theorem dL_law_12 : decode cL_law 12 = .ok (.invokespecial 12, 3) := by decide +kernel
theorem dL_law_15 : decode cL_law 15 = .ok (.astore_n 2, 1) := by decide +kernel
theorem dL_law_16 : decode cL_law 16 = .ok (.iconst 0, 1) := by decide +kernel
theorem dL_law_17 : decode cL_law 17 = .ok (.istore_n 3, 1) := by decide +kernel
theorem dL_law_18 : decode cL_law 18 = .ok (.iload_n 3, 1) := by decide +kernel
theorem dL_law_19 : decode cL_law 19 = .ok (.aload_n 0, 1) := by decide +kernel
theorem dL_law_20 : decode cL_law 20 = .ok (.arraylength, 1) := by decide +kernel
theorem dL_law_21 : decode cL_law 21 = .ok (.iconst 4, 1) := by decide +kernel
theorem dL_law_22 : decode cL_law 22 = .ok (.isub, 1) := by decide +kernel
theorem dL_law_23 : decode cL_law 23 = .ok (.if_icmp .gt 476, 3) := by decide +kernel
theorem dL_law_26 : decode cL_law 26 = .ok (.aload_n 0, 1) := by decide +kernel
theorem dL_law_27 : decode cL_law 27 = .ok (.iload_n 3, 1) := by decide +kernel
theorem dL_law_28 : decode cL_law 28 = .ok (.iaload, 1) := by decide +kernel
theorem dL_law_29 : decode cL_law 29 = .ok (.bipush 15, 2) := by decide +kernel
theorem dL_law_31 : decode cL_law 31 = .ok (.iand, 1) := by decide +kernel
theorem dL_law_32 : decode cL_law 32 = .ok (.tableswitch 461 0 14 #[76, 99, 132, 155, 168, 181, 194, 217, 250, 283, 306, 329, 362, 405, 438], 76) := by decide +kernel
theorem dL_law_108 : decode cL_law 108 = .ok (.aload_n 1, 1) := by decide +kernel
theorem dL_law_109 : decode cL_law 109 = .ok (.aload_n 0, 1) := by decide +kernel
theorem dL_law_110 : decode cL_law 110 = .ok (.iload_n 3, 1) := by decide +kernel
theorem dL_law_111 : decode cL_law 111 = .ok (.iconst 1, 1) := by decide +kernel
theorem dL_law_112 : decode cL_law 112 = .ok (.iadd, 1) := by decide +kernel
theorem dL_law_113 : decode cL_law 113 = .ok (.iaload, 1) := by decide +kernel
theorem dL_law_114 : decode cL_law 114 = .ok (.invokevirtual 13, 3) := by decide +kernel
theorem dL_law_117 : decode cL_law 117 = .ok (.aload_n 2, 1) := by decide +kernel
theorem dL_law_118 : decode cL_law 118 = .ok (.aload_n 0, 1) := by decide +kernel
theorem dL_law_119 : decode cL_law 119 = .ok (.iload_n 3, 1) := by decide +kernel
theorem dL_law_120 : decode cL_law 120 = .ok (.iconst 1, 1) := by decide +kernel
theorem dL_law_121 : decode cL_law 121 = .ok (.iadd, 1) := by decide +kernel
theorem dL_law_122 : decode cL_law 122 = .ok (.iaload, 1) := by decide +kernel
theorem dL_law_123 : decode cL_law 123 = .ok (.invokevirtual 17, 3) := by decide +kernel
theorem dL_law_126 : decode cL_law 126 = .ok (.if_icmp .eq 367, 3) := by decide +kernel
theorem dL_law_129 : decode cL_law 129 = .ok (.iconst 0, 1) := by decide +kernel
theorem dL_law_130 : decode cL_law 130 = .ok (.ireturn, 1) := by decide +kernel
theorem dL_law_131 : decode cL_law 131 = .ok (.aload_n 1, 1) := by decide +kernel
theorem dL_law_132 : decode cL_law 132 = .ok (.aload_n 0, 1) := by decide +kernel
theorem dL_law_133 : decode cL_law 133 = .ok (.iload_n 3, 1) := by decide +kernel
theorem dL_law_134 : decode cL_law 134 = .ok (.iconst 1, 1) := by decide +kernel
theorem dL_law_135 : decode cL_law 135 = .ok (.iadd, 1) := by decide +kernel
theorem dL_law_136 : decode cL_law 136 = .ok (.iaload, 1) := by decide +kernel
theorem dL_law_137 : decode cL_law 137 = .ok (.aload_n 0, 1) := by decide +kernel
theorem dL_law_138 : decode cL_law 138 = .ok (.iload_n 3, 1) := by decide +kernel
theorem dL_law_139 : decode cL_law 139 = .ok (.iconst 2, 1) := by decide +kernel
theorem dL_law_140 : decode cL_law 140 = .ok (.iadd, 1) := by decide +kernel
theorem dL_law_141 : decode cL_law 141 = .ok (.iaload, 1) := by decide +kernel
theorem dL_law_142 : decode cL_law 142 = .ok (.invokevirtual 18, 3) := by decide +kernel
theorem dL_law_145 : decode cL_law 145 = .ok (.aload_n 2, 1) := by decide +kernel
theorem dL_law_146 : decode cL_law 146 = .ok (.aload_n 0, 1) := by decide +kernel
theorem dL_law_147 : decode cL_law 147 = .ok (.iload_n 3, 1) := by decide +kernel
theorem dL_law_148 : decode cL_law 148 = .ok (.iconst 1, 1) := by decide +kernel
theorem dL_law_149 : decode cL_law 149 = .ok (.iadd, 1) := by decide +kernel
theorem dL_law_150 : decode cL_law 150 = .ok (.iaload, 1) := by decide +kernel
theorem dL_law_151 : decode cL_law 151 = .ok (.aload_n 0, 1) := by decide +kernel
theorem dL_law_152 : decode cL_law 152 = .ok (.iload_n 3, 1) := by decide +kernel
theorem dL_law_153 : decode cL_law 153 = .ok (.iconst 2, 1) := by decide +kernel
theorem dL_law_154 : decode cL_law 154 = .ok (.iadd, 1) := by decide +kernel
theorem dL_law_155 : decode cL_law 155 = .ok (.iaload, 1) := by decide +kernel
theorem dL_law_156 : decode cL_law 156 = .ok (.invokevirtual 22, 3) := by decide +kernel
theorem dL_law_159 : decode cL_law 159 = .ok (.if_icmp .eq 334, 3) := by decide +kernel
theorem dL_law_162 : decode cL_law 162 = .ok (.iconst 0, 1) := by decide +kernel
theorem dL_law_163 : decode cL_law 163 = .ok (.ireturn, 1) := by decide +kernel
theorem dL_law_164 : decode cL_law 164 = .ok (.aload_n 1, 1) := by decide +kernel
theorem dL_law_165 : decode cL_law 165 = .ok (.aload_n 0, 1) := by decide +kernel
theorem dL_law_166 : decode cL_law 166 = .ok (.iload_n 3, 1) := by decide +kernel
theorem dL_law_167 : decode cL_law 167 = .ok (.iconst 1, 1) := by decide +kernel
theorem dL_law_168 : decode cL_law 168 = .ok (.iadd, 1) := by decide +kernel
theorem dL_law_169 : decode cL_law 169 = .ok (.iaload, 1) := by decide +kernel
theorem dL_law_170 : decode cL_law 170 = .ok (.invokevirtual 23, 3) := by decide +kernel
theorem dL_law_173 : decode cL_law 173 = .ok (.aload_n 2, 1) := by decide +kernel
theorem dL_law_174 : decode cL_law 174 = .ok (.aload_n 0, 1) := by decide +kernel
theorem dL_law_175 : decode cL_law 175 = .ok (.iload_n 3, 1) := by decide +kernel
theorem dL_law_176 : decode cL_law 176 = .ok (.iconst 1, 1) := by decide +kernel
theorem dL_law_177 : decode cL_law 177 = .ok (.iadd, 1) := by decide +kernel
theorem dL_law_178 : decode cL_law 178 = .ok (.iaload, 1) := by decide +kernel
theorem dL_law_179 : decode cL_law 179 = .ok (.invokevirtual 26, 3) := by decide +kernel
theorem dL_law_182 : decode cL_law 182 = .ok (.if_icmp .eq 311, 3) := by decide +kernel
end
section
set_option maxRecDepth 100000
theorem dL_law_185 : decode cL_law 185 = .ok (.iconst 0, 1) := by decide +kernel
theorem dL_law_186 : decode cL_law 186 = .ok (.ireturn, 1) := by decide +kernel
theorem dL_law_187 : decode cL_law 187 = .ok (.aload_n 1, 1) := by decide +kernel
theorem dL_law_188 : decode cL_law 188 = .ok (.invokevirtual 27, 3) := by decide +kernel
theorem dL_law_191 : decode cL_law 191 = .ok (.aload_n 2, 1) := by decide +kernel
theorem dL_law_192 : decode cL_law 192 = .ok (.invokevirtual 31, 3) := by decide +kernel
theorem dL_law_195 : decode cL_law 195 = .ok (.if_icmp .eq 298, 3) := by decide +kernel
theorem dL_law_198 : decode cL_law 198 = .ok (.iconst 0, 1) := by decide +kernel
theorem dL_law_199 : decode cL_law 199 = .ok (.ireturn, 1) := by decide +kernel
theorem dL_law_200 : decode cL_law 200 = .ok (.aload_n 1, 1) := by decide +kernel
theorem dL_law_201 : decode cL_law 201 = .ok (.invokevirtual 32, 3) := by decide +kernel
theorem dL_law_204 : decode cL_law 204 = .ok (.aload_n 2, 1) := by decide +kernel
theorem dL_law_205 : decode cL_law 205 = .ok (.invokevirtual 36, 3) := by decide +kernel
theorem dL_law_208 : decode cL_law 208 = .ok (.if_icmp .eq 285, 3) := by decide +kernel
theorem dL_law_211 : decode cL_law 211 = .ok (.iconst 0, 1) := by decide +kernel
theorem dL_law_212 : decode cL_law 212 = .ok (.ireturn, 1) := by decide +kernel
theorem dL_law_213 : decode cL_law 213 = .ok (.aload_n 1, 1) := by decide +kernel
theorem dL_law_214 : decode cL_law 214 = .ok (.invokevirtual 37, 3) := by decide +kernel
theorem dL_law_217 : decode cL_law 217 = .ok (.aload_n 2, 1) := by decide +kernel
theorem dL_law_218 : decode cL_law 218 = .ok (.invokevirtual 40, 3) := by decide +kernel
theorem dL_law_221 : decode cL_law 221 = .ok (.if_icmp .eq 272, 3) := by decide +kernel
theorem dL_law_224 : decode cL_law 224 = .ok (.iconst 0, 1) := by decide +kernel
theorem dL_law_225 : decode cL_law 225 = .ok (.ireturn, 1) := by decide +kernel
theorem dL_law_226 : decode cL_law 226 = .ok (.aload_n 1, 1) := by decide +kernel
theorem dL_law_227 : decode cL_law 227 = .ok (.aload_n 0, 1) := by decide +kernel
theorem dL_law_228 : decode cL_law 228 = .ok (.iload_n 3, 1) := by decide +kernel
theorem dL_law_229 : decode cL_law 229 = .ok (.iconst 1, 1) := by decide +kernel
theorem dL_law_230 : decode cL_law 230 = .ok (.iadd, 1) := by decide +kernel
theorem dL_law_231 : decode cL_law 231 = .ok (.iaload, 1) := by decide +kernel
theorem dL_law_232 : decode cL_law 232 = .ok (.invokevirtual 41, 3) := by decide +kernel
theorem dL_law_235 : decode cL_law 235 = .ok (.aload_n 2, 1) := by decide +kernel
theorem dL_law_236 : decode cL_law 236 = .ok (.aload_n 0, 1) := by decide +kernel
theorem dL_law_237 : decode cL_law 237 = .ok (.iload_n 3, 1) := by decide +kernel
theorem dL_law_238 : decode cL_law 238 = .ok (.iconst 1, 1) := by decide +kernel
theorem dL_law_239 : decode cL_law 239 = .ok (.iadd, 1) := by decide +kernel
theorem dL_law_240 : decode cL_law 240 = .ok (.iaload, 1) := by decide +kernel
theorem dL_law_241 : decode cL_law 241 = .ok (.invokevirtual 44, 3) := by decide +kernel
theorem dL_law_244 : decode cL_law 244 = .ok (.if_icmp .eq 249, 3) := by decide +kernel
theorem dL_law_247 : decode cL_law 247 = .ok (.iconst 0, 1) := by decide +kernel
theorem dL_law_248 : decode cL_law 248 = .ok (.ireturn, 1) := by decide +kernel
theorem dL_law_249 : decode cL_law 249 = .ok (.aload_n 1, 1) := by decide +kernel
theorem dL_law_250 : decode cL_law 250 = .ok (.aload_n 0, 1) := by decide +kernel
theorem dL_law_251 : decode cL_law 251 = .ok (.iload_n 3, 1) := by decide +kernel
theorem dL_law_252 : decode cL_law 252 = .ok (.iconst 1, 1) := by decide +kernel
theorem dL_law_253 : decode cL_law 253 = .ok (.iadd, 1) := by decide +kernel
theorem dL_law_254 : decode cL_law 254 = .ok (.iaload, 1) := by decide +kernel
theorem dL_law_255 : decode cL_law 255 = .ok (.aload_n 0, 1) := by decide +kernel
theorem dL_law_256 : decode cL_law 256 = .ok (.iload_n 3, 1) := by decide +kernel
theorem dL_law_257 : decode cL_law 257 = .ok (.iconst 2, 1) := by decide +kernel
theorem dL_law_258 : decode cL_law 258 = .ok (.iadd, 1) := by decide +kernel
theorem dL_law_259 : decode cL_law 259 = .ok (.iaload, 1) := by decide +kernel
theorem dL_law_260 : decode cL_law 260 = .ok (.invokevirtual 45, 3) := by decide +kernel
theorem dL_law_263 : decode cL_law 263 = .ok (.aload_n 2, 1) := by decide +kernel
theorem dL_law_264 : decode cL_law 264 = .ok (.aload_n 0, 1) := by decide +kernel
theorem dL_law_265 : decode cL_law 265 = .ok (.iload_n 3, 1) := by decide +kernel
theorem dL_law_266 : decode cL_law 266 = .ok (.iconst 1, 1) := by decide +kernel
theorem dL_law_267 : decode cL_law 267 = .ok (.iadd, 1) := by decide +kernel
theorem dL_law_268 : decode cL_law 268 = .ok (.iaload, 1) := by decide +kernel
theorem dL_law_269 : decode cL_law 269 = .ok (.aload_n 0, 1) := by decide +kernel
theorem dL_law_270 : decode cL_law 270 = .ok (.iload_n 3, 1) := by decide +kernel
theorem dL_law_271 : decode cL_law 271 = .ok (.iconst 2, 1) := by decide +kernel
theorem dL_law_272 : decode cL_law 272 = .ok (.iadd, 1) := by decide +kernel
theorem dL_law_273 : decode cL_law 273 = .ok (.iaload, 1) := by decide +kernel
theorem dL_law_274 : decode cL_law 274 = .ok (.invokevirtual 48, 3) := by decide +kernel
theorem dL_law_277 : decode cL_law 277 = .ok (.if_icmp .eq 216, 3) := by decide +kernel
theorem dL_law_280 : decode cL_law 280 = .ok (.iconst 0, 1) := by decide +kernel
theorem dL_law_281 : decode cL_law 281 = .ok (.ireturn, 1) := by decide +kernel
theorem dL_law_282 : decode cL_law 282 = .ok (.aload_n 1, 1) := by decide +kernel
theorem dL_law_283 : decode cL_law 283 = .ok (.aload_n 0, 1) := by decide +kernel
theorem dL_law_284 : decode cL_law 284 = .ok (.iload_n 3, 1) := by decide +kernel
theorem dL_law_285 : decode cL_law 285 = .ok (.iconst 1, 1) := by decide +kernel
theorem dL_law_286 : decode cL_law 286 = .ok (.iadd, 1) := by decide +kernel
theorem dL_law_287 : decode cL_law 287 = .ok (.iaload, 1) := by decide +kernel
theorem dL_law_288 : decode cL_law 288 = .ok (.aload_n 0, 1) := by decide +kernel
theorem dL_law_289 : decode cL_law 289 = .ok (.iload_n 3, 1) := by decide +kernel
theorem dL_law_290 : decode cL_law 290 = .ok (.iconst 2, 1) := by decide +kernel
theorem dL_law_291 : decode cL_law 291 = .ok (.iadd, 1) := by decide +kernel
theorem dL_law_292 : decode cL_law 292 = .ok (.iaload, 1) := by decide +kernel
theorem dL_law_293 : decode cL_law 293 = .ok (.invokevirtual 49, 3) := by decide +kernel
theorem dL_law_296 : decode cL_law 296 = .ok (.aload_n 2, 1) := by decide +kernel
theorem dL_law_297 : decode cL_law 297 = .ok (.aload_n 0, 1) := by decide +kernel
end
section
set_option maxRecDepth 100000
theorem dL_law_298 : decode cL_law 298 = .ok (.iload_n 3, 1) := by decide +kernel
theorem dL_law_299 : decode cL_law 299 = .ok (.iconst 1, 1) := by decide +kernel
theorem dL_law_300 : decode cL_law 300 = .ok (.iadd, 1) := by decide +kernel
theorem dL_law_301 : decode cL_law 301 = .ok (.iaload, 1) := by decide +kernel
theorem dL_law_302 : decode cL_law 302 = .ok (.aload_n 0, 1) := by decide +kernel
theorem dL_law_303 : decode cL_law 303 = .ok (.iload_n 3, 1) := by decide +kernel
theorem dL_law_304 : decode cL_law 304 = .ok (.iconst 2, 1) := by decide +kernel
theorem dL_law_305 : decode cL_law 305 = .ok (.iadd, 1) := by decide +kernel
theorem dL_law_306 : decode cL_law 306 = .ok (.iaload, 1) := by decide +kernel
theorem dL_law_307 : decode cL_law 307 = .ok (.invokevirtual 52, 3) := by decide +kernel
theorem dL_law_310 : decode cL_law 310 = .ok (.if_icmp .eq 183, 3) := by decide +kernel
theorem dL_law_313 : decode cL_law 313 = .ok (.iconst 0, 1) := by decide +kernel
theorem dL_law_314 : decode cL_law 314 = .ok (.ireturn, 1) := by decide +kernel
theorem dL_law_315 : decode cL_law 315 = .ok (.aload_n 1, 1) := by decide +kernel
theorem dL_law_316 : decode cL_law 316 = .ok (.aload_n 0, 1) := by decide +kernel
theorem dL_law_317 : decode cL_law 317 = .ok (.iload_n 3, 1) := by decide +kernel
theorem dL_law_318 : decode cL_law 318 = .ok (.iconst 1, 1) := by decide +kernel
theorem dL_law_319 : decode cL_law 319 = .ok (.iadd, 1) := by decide +kernel
theorem dL_law_320 : decode cL_law 320 = .ok (.iaload, 1) := by decide +kernel
theorem dL_law_321 : decode cL_law 321 = .ok (.invokevirtual 53, 3) := by decide +kernel
theorem dL_law_324 : decode cL_law 324 = .ok (.aload_n 2, 1) := by decide +kernel
theorem dL_law_325 : decode cL_law 325 = .ok (.aload_n 0, 1) := by decide +kernel
theorem dL_law_326 : decode cL_law 326 = .ok (.iload_n 3, 1) := by decide +kernel
theorem dL_law_327 : decode cL_law 327 = .ok (.iconst 1, 1) := by decide +kernel
theorem dL_law_328 : decode cL_law 328 = .ok (.iadd, 1) := by decide +kernel
theorem dL_law_329 : decode cL_law 329 = .ok (.iaload, 1) := by decide +kernel
theorem dL_law_330 : decode cL_law 330 = .ok (.invokevirtual 56, 3) := by decide +kernel
theorem dL_law_333 : decode cL_law 333 = .ok (.if_icmp .eq 160, 3) := by decide +kernel
theorem dL_law_336 : decode cL_law 336 = .ok (.iconst 0, 1) := by decide +kernel
theorem dL_law_337 : decode cL_law 337 = .ok (.ireturn, 1) := by decide +kernel
theorem dL_law_338 : decode cL_law 338 = .ok (.aload_n 1, 1) := by decide +kernel
theorem dL_law_339 : decode cL_law 339 = .ok (.aload_n 0, 1) := by decide +kernel
theorem dL_law_340 : decode cL_law 340 = .ok (.iload_n 3, 1) := by decide +kernel
theorem dL_law_341 : decode cL_law 341 = .ok (.iconst 1, 1) := by decide +kernel
theorem dL_law_342 : decode cL_law 342 = .ok (.iadd, 1) := by decide +kernel
theorem dL_law_343 : decode cL_law 343 = .ok (.iaload, 1) := by decide +kernel
theorem dL_law_344 : decode cL_law 344 = .ok (.invokevirtual 57, 3) := by decide +kernel
theorem dL_law_347 : decode cL_law 347 = .ok (.aload_n 2, 1) := by decide +kernel
theorem dL_law_348 : decode cL_law 348 = .ok (.aload_n 0, 1) := by decide +kernel
theorem dL_law_349 : decode cL_law 349 = .ok (.iload_n 3, 1) := by decide +kernel
theorem dL_law_350 : decode cL_law 350 = .ok (.iconst 1, 1) := by decide +kernel
theorem dL_law_351 : decode cL_law 351 = .ok (.iadd, 1) := by decide +kernel
theorem dL_law_352 : decode cL_law 352 = .ok (.iaload, 1) := by decide +kernel
theorem dL_law_353 : decode cL_law 353 = .ok (.invokevirtual 60, 3) := by decide +kernel
theorem dL_law_356 : decode cL_law 356 = .ok (.if_icmp .eq 137, 3) := by decide +kernel
theorem dL_law_359 : decode cL_law 359 = .ok (.iconst 0, 1) := by decide +kernel
theorem dL_law_360 : decode cL_law 360 = .ok (.ireturn, 1) := by decide +kernel
theorem dL_law_361 : decode cL_law 361 = .ok (.aload_n 1, 1) := by decide +kernel
theorem dL_law_362 : decode cL_law 362 = .ok (.aload_n 0, 1) := by decide +kernel
theorem dL_law_363 : decode cL_law 363 = .ok (.iload_n 3, 1) := by decide +kernel
theorem dL_law_364 : decode cL_law 364 = .ok (.iconst 1, 1) := by decide +kernel
theorem dL_law_365 : decode cL_law 365 = .ok (.iadd, 1) := by decide +kernel
theorem dL_law_366 : decode cL_law 366 = .ok (.iaload, 1) := by decide +kernel
theorem dL_law_367 : decode cL_law 367 = .ok (.aload_n 0, 1) := by decide +kernel
theorem dL_law_368 : decode cL_law 368 = .ok (.iload_n 3, 1) := by decide +kernel
theorem dL_law_369 : decode cL_law 369 = .ok (.iconst 2, 1) := by decide +kernel
theorem dL_law_370 : decode cL_law 370 = .ok (.iadd, 1) := by decide +kernel
theorem dL_law_371 : decode cL_law 371 = .ok (.iaload, 1) := by decide +kernel
theorem dL_law_372 : decode cL_law 372 = .ok (.invokevirtual 61, 3) := by decide +kernel
theorem dL_law_375 : decode cL_law 375 = .ok (.aload_n 2, 1) := by decide +kernel
theorem dL_law_376 : decode cL_law 376 = .ok (.aload_n 0, 1) := by decide +kernel
theorem dL_law_377 : decode cL_law 377 = .ok (.iload_n 3, 1) := by decide +kernel
theorem dL_law_378 : decode cL_law 378 = .ok (.iconst 1, 1) := by decide +kernel
theorem dL_law_379 : decode cL_law 379 = .ok (.iadd, 1) := by decide +kernel
theorem dL_law_380 : decode cL_law 380 = .ok (.iaload, 1) := by decide +kernel
theorem dL_law_381 : decode cL_law 381 = .ok (.aload_n 0, 1) := by decide +kernel
theorem dL_law_382 : decode cL_law 382 = .ok (.iload_n 3, 1) := by decide +kernel
theorem dL_law_383 : decode cL_law 383 = .ok (.iconst 2, 1) := by decide +kernel
theorem dL_law_384 : decode cL_law 384 = .ok (.iadd, 1) := by decide +kernel
theorem dL_law_385 : decode cL_law 385 = .ok (.iaload, 1) := by decide +kernel
theorem dL_law_386 : decode cL_law 386 = .ok (.invokevirtual 64, 3) := by decide +kernel
theorem dL_law_389 : decode cL_law 389 = .ok (.if_icmp .eq 104, 3) := by decide +kernel
theorem dL_law_392 : decode cL_law 392 = .ok (.iconst 0, 1) := by decide +kernel
theorem dL_law_393 : decode cL_law 393 = .ok (.ireturn, 1) := by decide +kernel
theorem dL_law_394 : decode cL_law 394 = .ok (.aload_n 1, 1) := by decide +kernel
theorem dL_law_395 : decode cL_law 395 = .ok (.aload_n 0, 1) := by decide +kernel
theorem dL_law_396 : decode cL_law 396 = .ok (.iload_n 3, 1) := by decide +kernel
theorem dL_law_397 : decode cL_law 397 = .ok (.iconst 1, 1) := by decide +kernel
theorem dL_law_398 : decode cL_law 398 = .ok (.iadd, 1) := by decide +kernel
theorem dL_law_399 : decode cL_law 399 = .ok (.iaload, 1) := by decide +kernel
theorem dL_law_400 : decode cL_law 400 = .ok (.aload_n 0, 1) := by decide +kernel
end
section
set_option maxRecDepth 100000
theorem dL_law_401 : decode cL_law 401 = .ok (.iload_n 3, 1) := by decide +kernel
theorem dL_law_402 : decode cL_law 402 = .ok (.iconst 2, 1) := by decide +kernel
theorem dL_law_403 : decode cL_law 403 = .ok (.iadd, 1) := by decide +kernel
theorem dL_law_404 : decode cL_law 404 = .ok (.iaload, 1) := by decide +kernel
theorem dL_law_405 : decode cL_law 405 = .ok (.aload_n 0, 1) := by decide +kernel
theorem dL_law_406 : decode cL_law 406 = .ok (.iload_n 3, 1) := by decide +kernel
theorem dL_law_407 : decode cL_law 407 = .ok (.iconst 3, 1) := by decide +kernel
theorem dL_law_408 : decode cL_law 408 = .ok (.iadd, 1) := by decide +kernel
theorem dL_law_409 : decode cL_law 409 = .ok (.iaload, 1) := by decide +kernel
theorem dL_law_410 : decode cL_law 410 = .ok (.invokevirtual 65, 3) := by decide +kernel
theorem dL_law_413 : decode cL_law 413 = .ok (.aload_n 2, 1) := by decide +kernel
theorem dL_law_414 : decode cL_law 414 = .ok (.aload_n 0, 1) := by decide +kernel
theorem dL_law_415 : decode cL_law 415 = .ok (.iload_n 3, 1) := by decide +kernel
theorem dL_law_416 : decode cL_law 416 = .ok (.iconst 1, 1) := by decide +kernel
theorem dL_law_417 : decode cL_law 417 = .ok (.iadd, 1) := by decide +kernel
theorem dL_law_418 : decode cL_law 418 = .ok (.iaload, 1) := by decide +kernel
theorem dL_law_419 : decode cL_law 419 = .ok (.aload_n 0, 1) := by decide +kernel
theorem dL_law_420 : decode cL_law 420 = .ok (.iload_n 3, 1) := by decide +kernel
theorem dL_law_421 : decode cL_law 421 = .ok (.iconst 2, 1) := by decide +kernel
theorem dL_law_422 : decode cL_law 422 = .ok (.iadd, 1) := by decide +kernel
theorem dL_law_423 : decode cL_law 423 = .ok (.iaload, 1) := by decide +kernel
theorem dL_law_424 : decode cL_law 424 = .ok (.aload_n 0, 1) := by decide +kernel
theorem dL_law_425 : decode cL_law 425 = .ok (.iload_n 3, 1) := by decide +kernel
theorem dL_law_426 : decode cL_law 426 = .ok (.iconst 3, 1) := by decide +kernel
theorem dL_law_427 : decode cL_law 427 = .ok (.iadd, 1) := by decide +kernel
theorem dL_law_428 : decode cL_law 428 = .ok (.iaload, 1) := by decide +kernel
theorem dL_law_429 : decode cL_law 429 = .ok (.invokevirtual 69, 3) := by decide +kernel
theorem dL_law_432 : decode cL_law 432 = .ok (.if_icmp .eq 61, 3) := by decide +kernel
theorem dL_law_435 : decode cL_law 435 = .ok (.iconst 0, 1) := by decide +kernel
theorem dL_law_436 : decode cL_law 436 = .ok (.ireturn, 1) := by decide +kernel
theorem dL_law_437 : decode cL_law 437 = .ok (.aload_n 1, 1) := by decide +kernel
theorem dL_law_438 : decode cL_law 438 = .ok (.aload_n 0, 1) := by decide +kernel
theorem dL_law_439 : decode cL_law 439 = .ok (.iload_n 3, 1) := by decide +kernel
theorem dL_law_440 : decode cL_law 440 = .ok (.iconst 1, 1) := by decide +kernel
theorem dL_law_441 : decode cL_law 441 = .ok (.iadd, 1) := by decide +kernel
theorem dL_law_442 : decode cL_law 442 = .ok (.iaload, 1) := by decide +kernel
theorem dL_law_443 : decode cL_law 443 = .ok (.aload_n 0, 1) := by decide +kernel
theorem dL_law_444 : decode cL_law 444 = .ok (.iload_n 3, 1) := by decide +kernel
theorem dL_law_445 : decode cL_law 445 = .ok (.iconst 2, 1) := by decide +kernel
theorem dL_law_446 : decode cL_law 446 = .ok (.iadd, 1) := by decide +kernel
theorem dL_law_447 : decode cL_law 447 = .ok (.iaload, 1) := by decide +kernel
theorem dL_law_448 : decode cL_law 448 = .ok (.invokevirtual 70, 3) := by decide +kernel
theorem dL_law_451 : decode cL_law 451 = .ok (.aload_n 2, 1) := by decide +kernel
theorem dL_law_452 : decode cL_law 452 = .ok (.aload_n 0, 1) := by decide +kernel
theorem dL_law_453 : decode cL_law 453 = .ok (.iload_n 3, 1) := by decide +kernel
theorem dL_law_454 : decode cL_law 454 = .ok (.iconst 1, 1) := by decide +kernel
theorem dL_law_455 : decode cL_law 455 = .ok (.iadd, 1) := by decide +kernel
theorem dL_law_456 : decode cL_law 456 = .ok (.iaload, 1) := by decide +kernel
theorem dL_law_457 : decode cL_law 457 = .ok (.aload_n 0, 1) := by decide +kernel
theorem dL_law_458 : decode cL_law 458 = .ok (.iload_n 3, 1) := by decide +kernel
theorem dL_law_459 : decode cL_law 459 = .ok (.iconst 2, 1) := by decide +kernel
theorem dL_law_460 : decode cL_law 460 = .ok (.iadd, 1) := by decide +kernel
theorem dL_law_461 : decode cL_law 461 = .ok (.iaload, 1) := by decide +kernel
theorem dL_law_462 : decode cL_law 462 = .ok (.invokevirtual 73, 3) := by decide +kernel
theorem dL_law_465 : decode cL_law 465 = .ok (.if_icmp .eq 28, 3) := by decide +kernel
theorem dL_law_468 : decode cL_law 468 = .ok (.iconst 0, 1) := by decide +kernel
theorem dL_law_469 : decode cL_law 469 = .ok (.ireturn, 1) := by decide +kernel
theorem dL_law_470 : decode cL_law 470 = .ok (.aload_n 1, 1) := by decide +kernel
theorem dL_law_471 : decode cL_law 471 = .ok (.aload_n 0, 1) := by decide +kernel
theorem dL_law_472 : decode cL_law 472 = .ok (.iload_n 3, 1) := by decide +kernel
theorem dL_law_473 : decode cL_law 473 = .ok (.iconst 1, 1) := by decide +kernel
theorem dL_law_474 : decode cL_law 474 = .ok (.iadd, 1) := by decide +kernel
theorem dL_law_475 : decode cL_law 475 = .ok (.iaload, 1) := by decide +kernel
theorem dL_law_476 : decode cL_law 476 = .ok (.invokevirtual 74, 3) := by decide +kernel
theorem dL_law_479 : decode cL_law 479 = .ok (.aload_n 2, 1) := by decide +kernel
theorem dL_law_480 : decode cL_law 480 = .ok (.aload_n 0, 1) := by decide +kernel
theorem dL_law_481 : decode cL_law 481 = .ok (.iload_n 3, 1) := by decide +kernel
theorem dL_law_482 : decode cL_law 482 = .ok (.iconst 1, 1) := by decide +kernel
theorem dL_law_483 : decode cL_law 483 = .ok (.iadd, 1) := by decide +kernel
theorem dL_law_484 : decode cL_law 484 = .ok (.iaload, 1) := by decide +kernel
theorem dL_law_485 : decode cL_law 485 = .ok (.invokevirtual 77, 3) := by decide +kernel
theorem dL_law_488 : decode cL_law 488 = .ok (.if_icmp .eq 5, 3) := by decide +kernel
theorem dL_law_491 : decode cL_law 491 = .ok (.iconst 0, 1) := by decide +kernel
theorem dL_law_492 : decode cL_law 492 = .ok (.ireturn, 1) := by decide +kernel
theorem dL_law_493 : decode cL_law 493 = .ok (.iinc 3 4, 3) := by decide +kernel
theorem dL_law_496 : decode cL_law 496 = .ok (.goto (-478), 3) := by decide +kernel
theorem dL_law_499 : decode cL_law 499 = .ok (.iconst 1, 1) := by decide +kernel
theorem dL_law_500 : decode cL_law 500 = .ok (.ireturn, 1) := by decide +kernel
end
section
/-! the two classes of the world, own contracts' forms, rows by natural numbers -/
abbrev vwCl : List vw_C := [(RX0, TX0, 8), (RX1, TX1, 12)]
abbrev zr0 : Room := { frames := 0, cells := 0, slots := 0, locals := 0 }
abbrev zr1 : Room := { frames := 1, cells := 0, slots := 0, locals := 30 }
abbrev zr2 : Room := { frames := 2, cells := 0, slots := 0, locals := 60 }
abbrev zr3 : Room := { frames := 3, cells := 0, slots := 0, locals := 90 }
def cz_pre (D : va_G) (tys : List (ClassId × FieldType)) (w : va_W) (sz : Nat) (U : State) : Prop := U.heap.size = sz ∧ va_P D vwCl w U.heap ∧ va_K D vwCl tys U ∧ va_D (fun _ => True) w
def cz_post (D : va_G) (tys : List (ClassId × FieldType)) (A : Nat → Prop) (w : va_W) (t : State) : Prop := va_P D vwCl w t.heap ∧ va_K D vwCl tys t ∧ va_D A w
/-- a contract of an instance method that answers an int (or boolean): its world w, the answer r and the new world w' u with post r u; makes nothing -/
abbrev MetI (l : Launch) (y : MethodName) (wo : List Cond) (rm : Room) (D : va_G) (tys : List (ClassId × FieldType)) (as : List Value) (w : va_W) {S : Type} (post : Int32 → S → Prop) (w' : S → va_W) : Prop :=
  ∀ sz : Nat, Met l y wo rm (va_Pc as (cz_pre D tys w sz)) (va_Qi post (fun u => cz_post D tys (va_A w sz) (w' u)) (va_A w sz)) 0 0 (va_A w sz)
/-- the same without an answer -/
abbrev MetV (l : Launch) (y : MethodName) (wo : List Cond) (rm : Room) (D : va_G) (tys : List (ClassId × FieldType)) (as : List Value) (w : va_W) {S : Type} (post : S → Prop) (w' : S → va_W) : Prop :=
  ∀ sz : Nat, Met l y wo rm (va_Pc as (cz_pre D tys w sz)) (va_Qv post (fun u => cz_post D tys (va_A w sz) (w' u)) (va_A w sz)) 0 0 (va_A w sz)
def bI (b : Bool) : Int32 := if b = true then nI 1 else nI 0
theorem bI_t : bI true = nI 1 := rfl
theorem bI_f : bI false = nI 0 := rfl
theorem bI_0 {b : Bool} (h : bI b = 0) : b = false := by
  cases b with
  | false => rfl
  | true => exact absurd h (by decide +kernel)
theorem bI_1 {b : Bool} (h : ¬ bI b = 0) : b = true := by
  cases b with
  | true => rfl
  | false => exact absurd (by decide +kernel) h
theorem wz_inc1 (i : Nat) : nI i + Int32.ofInt 1 = nI (i + 1) := nI_1 i
theorem wz_dec1 (i : Nat) : nI (i + 1) + Int32.ofInt (-1) = nI i := pk_m1 i
section BASE
variable {p : Program} {l : Launch} {e : Env} {R : Room} {s : State} {m : MethodId} {args : Array Value} {below : List Frame} {meth : Method} {c : Code} {H : Heap} {locs : List Loc} {cells slots : Nat} {Q : State → Prop}
variable {cc : ByteArray} {pc : Nat} {ls : Array Slot} {rest : List Value} {D : va_G} {cl : List vw_C} {ws : va_W} {tys : List (ClassId × FieldType)} {A : Nat → Prop} {H0 : Heap} {a : Nat}
theorem wz_top {x y : Int32} (h : x = y) (k : W p l e R s m args below meth c H locs cells slots Q (F0 m pc ls (.int y :: rest))) : W p l e R s m args below meth c H locs cells slots Q (F0 m pc ls (.int x :: rest)) := by
  subst h; exact k
theorem wz_iadd (hexec : p.tables.exec = Jvm.exec) (hb : c.code = cc) {x y : Nat} (hdg : decode cc pc = .ok (.iadd, 1)) (k : W p l e R s m args below meth c H locs cells slots Q (F0 m (pc + 1) ls (.int (nI (x + y)) :: rest))) : W p l e R s m args below meth c H locs cells slots Q (F0 m pc ls (.int (nI y) :: .int (nI x) :: rest)) :=
  lv_iadd hexec hb hdg (wz_top (nI_add x y) k)
theorem wz_imul (hexec : p.tables.exec = Jvm.exec) (hb : c.code = cc) {x y : Nat} (hdg : decode cc pc = .ok (.imul, 1)) (k : W p l e R s m args below meth c H locs cells slots Q (F0 m (pc + 1) ls (.int (nI (x * y)) :: rest))) : W p l e R s m args below meth c H locs cells slots Q (F0 m pc ls (.int (nI y) :: .int (nI x) :: rest)) :=
  lv_imul hexec hb hdg (wz_top (pk_mul x y) k)
theorem wz_isub (hexec : p.tables.exec = Jvm.exec) (hb : c.code = cc) {x y : Nat} (z : Nat) (hz : z + y = x) (hdg : decode cc pc = .ok (.isub, 1)) (k : W p l e R s m args below meth c H locs cells slots Q (F0 m (pc + 1) ls (.int (nI z) :: rest))) : W p l e R s m args below meth c H locs cells slots Q (F0 m pc ls (.int (nI y) :: .int (nI x) :: rest)) :=
  lv_isub hexec hb hdg (wz_top (by rw [pk_sub (by omega)]; congr 1; omega) k)
theorem wz_ge (hexec : p.tables.exec = Jvm.exec) (hb : c.code = cc) {x y : Nat} {off : Int} {tgt : Nat} (hx : x < 2 ^ 31) (hy : y < 2 ^ 31) (hdg : decode cc pc = .ok (.if_icmp .ge off, 3)) (ht : (pc : Int) + off = (tgt : Int))
    (kt : y ≤ x → W p l e R s m args below meth c H locs cells slots Q (F0 m tgt ls rest)) (kf : x < y → W p l e R s m args below meth c H locs cells slots Q (F0 m (pc + 3) ls rest)) : W p l e R s m args below meth c H locs cells slots Q (F0 m pc ls (.int (nI y) :: .int (nI x) :: rest)) :=
  lv_icmp_ge hexec hb hdg ht (fun h => kt ((nI_leI hy hx).mp h)) (fun h => kf (Nat.lt_of_not_le (fun q => h ((nI_leI hy hx).mpr q))))
theorem wz_gt (hexec : p.tables.exec = Jvm.exec) (hb : c.code = cc) {x y : Nat} {off : Int} {tgt : Nat} (hx : x < 2 ^ 31) (hy : y < 2 ^ 31) (hdg : decode cc pc = .ok (.if_icmp .gt off, 3)) (ht : (pc : Int) + off = (tgt : Int))
    (kt : y < x → W p l e R s m args below meth c H locs cells slots Q (F0 m tgt ls rest)) (kf : x ≤ y → W p l e R s m args below meth c H locs cells slots Q (F0 m (pc + 3) ls rest)) : W p l e R s m args below meth c H locs cells slots Q (F0 m pc ls (.int (nI y) :: .int (nI x) :: rest)) :=
  lv_icmp_gt hexec hb hdg ht (fun h => kt ((nI_ltI hy hx).mp h)) (fun h => kf (Nat.le_of_not_lt (fun q => h ((nI_ltI hy hx).mpr q))))
theorem wz_lt (hexec : p.tables.exec = Jvm.exec) (hb : c.code = cc) {x y : Nat} {off : Int} {tgt : Nat} (hx : x < 2 ^ 31) (hy : y < 2 ^ 31) (hdg : decode cc pc = .ok (.if_icmp .lt off, 3)) (ht : (pc : Int) + off = (tgt : Int))
    (kt : x < y → W p l e R s m args below meth c H locs cells slots Q (F0 m tgt ls rest)) (kf : y ≤ x → W p l e R s m args below meth c H locs cells slots Q (F0 m (pc + 3) ls rest)) : W p l e R s m args below meth c H locs cells slots Q (F0 m pc ls (.int (nI y) :: .int (nI x) :: rest)) :=
  lv_icmp_lt hexec hb hdg ht (fun h => kt ((nI_ltI hx hy).mp h)) (fun h => kf (Nat.le_of_not_lt (fun q => h ((nI_ltI hx hy).mpr q))))
theorem wz_le (hexec : p.tables.exec = Jvm.exec) (hb : c.code = cc) {x y : Nat} {off : Int} {tgt : Nat} (hx : x < 2 ^ 31) (hy : y < 2 ^ 31) (hdg : decode cc pc = .ok (.if_icmp .le off, 3)) (ht : (pc : Int) + off = (tgt : Int))
    (kt : x ≤ y → W p l e R s m args below meth c H locs cells slots Q (F0 m tgt ls rest)) (kf : y < x → W p l e R s m args below meth c H locs cells slots Q (F0 m (pc + 3) ls rest)) : W p l e R s m args below meth c H locs cells slots Q (F0 m pc ls (.int (nI y) :: .int (nI x) :: rest)) :=
  lv_icmp_le hexec hb hdg ht (fun h => kt ((nI_leI hx hy).mp h)) (fun h => kf (Nat.lt_of_not_le (fun q => h ((nI_leI hx hy).mpr q))))
theorem wz_eq (hexec : p.tables.exec = Jvm.exec) (hb : c.code = cc) {x y : Nat} {off : Int} {tgt : Nat} (hx : x < 2 ^ 31) (hy : y < 2 ^ 31) (hdg : decode cc pc = .ok (.if_icmp .eq off, 3)) (ht : (pc : Int) + off = (tgt : Int))
    (kt : x = y → W p l e R s m args below meth c H locs cells slots Q (F0 m tgt ls rest)) (kf : ¬ x = y → W p l e R s m args below meth c H locs cells slots Q (F0 m (pc + 3) ls rest)) : W p l e R s m args below meth c H locs cells slots Q (F0 m pc ls (.int (nI y) :: .int (nI x) :: rest)) :=
  lv_icmp_eq hexec hb hdg ht (fun h => kt ((nI_eq hx hy).mp h)) (fun h => kf (fun q => h ((nI_eq hx hy).mpr q)))
theorem wz_ne (hexec : p.tables.exec = Jvm.exec) (hb : c.code = cc) {x y : Nat} {off : Int} {tgt : Nat} (hx : x < 2 ^ 31) (hy : y < 2 ^ 31) (hdg : decode cc pc = .ok (.if_icmp .ne off, 3)) (ht : (pc : Int) + off = (tgt : Int))
    (kt : ¬ x = y → W p l e R s m args below meth c H locs cells slots Q (F0 m tgt ls rest)) (kf : x = y → W p l e R s m args below meth c H locs cells slots Q (F0 m (pc + 3) ls rest)) : W p l e R s m args below meth c H locs cells slots Q (F0 m pc ls (.int (nI y) :: .int (nI x) :: rest)) :=
  lv_icmp_ne hexec hb hdg ht (fun h => kt (fun q => h ((nI_eq hx hy).mpr q))) (fun h => kf ((nI_eq hx hy).mp h))
/-- a branch on a truth value -/
theorem wz_b_eq (hexec : p.tables.exec = Jvm.exec) (hb : c.code = cc) {b : Bool} {off : Int} {tgt : Nat} (hdg : decode cc pc = .ok (.ifCond .eq off, 3)) (ht : (pc : Int) + off = (tgt : Int))
    (kt : b = false → W p l e R s m args below meth c H locs cells slots Q (F0 m tgt ls rest)) (kf : b = true → W p l e R s m args below meth c H locs cells slots Q (F0 m (pc + 3) ls rest)) : W p l e R s m args below meth c H locs cells slots Q (F0 m pc ls (.int (bI b) :: rest)) :=
  lv_if_eq hexec hb hdg ht (fun h => kt (bI_0 h)) (fun h => kf (bI_1 h))
theorem wz_b_ne (hexec : p.tables.exec = Jvm.exec) (hb : c.code = cc) {b : Bool} {off : Int} {tgt : Nat} (hdg : decode cc pc = .ok (.ifCond .ne off, 3)) (ht : (pc : Int) + off = (tgt : Int))
    (kt : b = true → W p l e R s m args below meth c H locs cells slots Q (F0 m tgt ls rest)) (kf : b = false → W p l e R s m args below meth c H locs cells slots Q (F0 m (pc + 3) ls rest)) : W p l e R s m args below meth c H locs cells slots Q (F0 m pc ls (.int (bI b) :: rest)) :=
  lv_if_ne hexec hb hdg ht (fun h => kt (bI_1 h)) (fun h => kf (bI_0 h))
/-- a branch on the sign of a natural number -/
theorem wz_n_lt (hexec : p.tables.exec = Jvm.exec) (hb : c.code = cc) {x : Nat} {off : Int} {tgt : Nat} (hx : x < 2 ^ 31) (hdg : decode cc pc = .ok (.ifCond .lt off, 3)) (ht : (pc : Int) + off = (tgt : Int))
    (kf : W p l e R s m args below meth c H locs cells slots Q (F0 m (pc + 3) ls rest)) : W p l e R s m args below meth c H locs cells slots Q (F0 m pc ls (.int (nI x) :: rest)) :=
  lv_if_lt hexec hb hdg ht (fun h => absurd h (nI_pos hx)) (fun _ => kf)
theorem wz_n_ge (hexec : p.tables.exec = Jvm.exec) (hb : c.code = cc) {x : Nat} {off : Int} {tgt : Nat} (hx : x < 2 ^ 31) (hdg : decode cc pc = .ok (.ifCond .ge off, 3)) (ht : (pc : Int) + off = (tgt : Int))
    (kt : W p l e R s m args below meth c H locs cells slots Q (F0 m tgt ls rest)) : W p l e R s m args below meth c H locs cells slots Q (F0 m pc ls (.int (nI x) :: rest)) :=
  lv_if_ge hexec hb hdg ht (fun _ => kt) (fun h => absurd (nI_pos' hx) h)
theorem wz_n_ne (hexec : p.tables.exec = Jvm.exec) (hb : c.code = cc) {x : Nat} {off : Int} {tgt : Nat} (hx : x < 2 ^ 31) (hdg : decode cc pc = .ok (.ifCond .ne off, 3)) (ht : (pc : Int) + off = (tgt : Int))
    (kt : ¬ x = 0 → W p l e R s m args below meth c H locs cells slots Q (F0 m tgt ls rest)) (kf : x = 0 → W p l e R s m args below meth c H locs cells slots Q (F0 m (pc + 3) ls rest)) : W p l e R s m args below meth c H locs cells slots Q (F0 m pc ls (.int (nI x) :: rest)) :=
  lv_if_ne hexec hb hdg ht (fun h => kt (fun q => h (by rw [q]; exact nI_0))) (fun h => kf (by
    rcases Nat.eq_zero_or_pos x with q | q
    · exact q
    · exact absurd h (nI_ne0 q hx)))
/-- a branch on the sign of -1 -/
theorem wz_m_lt (hexec : p.tables.exec = Jvm.exec) (hb : c.code = cc) {off : Int} {tgt : Nat} (hdg : decode cc pc = .ok (.ifCond .lt off, 3)) (ht : (pc : Int) + off = (tgt : Int))
    (kt : W p l e R s m args below meth c H locs cells slots Q (F0 m tgt ls rest)) : W p l e R s m args below meth c H locs cells slots Q (F0 m pc ls (.int (-1) :: rest)) :=
  lv_if_lt hexec hb hdg ht (fun _ => kt) (fun h => absurd (by decide +kernel) h)
theorem wz_m_ge (hexec : p.tables.exec = Jvm.exec) (hb : c.code = cc) {off : Int} {tgt : Nat} (hdg : decode cc pc = .ok (.ifCond .ge off, 3)) (ht : (pc : Int) + off = (tgt : Int))
    (kf : W p l e R s m args below meth c H locs cells slots Q (F0 m (pc + 3) ls rest)) : W p l e R s m args below meth c H locs cells slots Q (F0 m pc ls (.int (-1) :: rest)) :=
  lv_if_ge hexec hb hdg ht (fun h => absurd h (by decide +kernel)) (fun _ => kf)
theorem wz_bald (hexec : p.tables.exec = Jvm.exec) (hb : c.code = cc) (hK : va_K D cl tys s) (hP : va_P D cl ws H) (q0 t0 : Nat) {cA : ClassId} {n : Nat} {f : Nat → Int32} (ha : ws[q0]? = some (a, .inl (cA, n, .inl f))) (ht : tys[t0]? = some (cA, .byte)) {i : Nat} (hi : i < n) (hn : n < 2 ^ 31) (hdg : decode cc pc = .ok (.baload, 1))
    (kk : W p l e R s m args below meth c H locs cells slots Q (F0 m (pc + 1) ls (.int (f i) :: rest))) : W p l e R s m args below meth c H locs cells slots Q (F0 m pc ls (.int (nI i) :: .ref a :: rest)) :=
  va_bald hexec hb hK hP q0 t0 ha ht (vp_in_nI hi hn) hdg (by rw [nI_clamp (Nat.lt_trans hi hn)]; exact kk)
theorem wz_sald (hexec : p.tables.exec = Jvm.exec) (hb : c.code = cc) (hK : va_K D cl tys s) (hP : va_P D cl ws H) (q0 t0 : Nat) {cA : ClassId} {n : Nat} {f : Nat → Int32} (ha : ws[q0]? = some (a, .inl (cA, n, .inl f))) (ht : tys[t0]? = some (cA, .short)) {i : Nat} (hi : i < n) (hn : n < 2 ^ 31) (hdg : decode cc pc = .ok (.saload, 1))
    (kk : W p l e R s m args below meth c H locs cells slots Q (F0 m (pc + 1) ls (.int (f i) :: rest))) : W p l e R s m args below meth c H locs cells slots Q (F0 m pc ls (.int (nI i) :: .ref a :: rest)) :=
  va_sald hexec hb hK hP q0 t0 ha ht (vp_in_nI hi hn) hdg (by rw [nI_clamp (Nat.lt_trans hi hn)]; exact kk)
theorem wz_iald (hexec : p.tables.exec = Jvm.exec) (hb : c.code = cc) (hK : va_K D cl tys s) (hP : va_P D cl ws H) (q0 t0 : Nat) {cA : ClassId} {n : Nat} {f : Nat → Int32} (ha : ws[q0]? = some (a, .inl (cA, n, .inl f))) (ht : tys[t0]? = some (cA, .int)) {i : Nat} (hi : i < n) (hn : n < 2 ^ 31) (hdg : decode cc pc = .ok (.iaload, 1))
    (kk : W p l e R s m args below meth c H locs cells slots Q (F0 m (pc + 1) ls (.int (f i) :: rest))) : W p l e R s m args below meth c H locs cells slots Q (F0 m pc ls (.int (nI i) :: .ref a :: rest)) :=
  va_iald hexec hb hK hP q0 t0 ha ht (vp_in_nI hi hn) hdg (by rw [nI_clamp (Nat.lt_trans hi hn)]; exact kk)
theorem wz_bast (hexec : p.tables.exec = Jvm.exec) (hb : c.code = cc) (hK : va_K D cl tys s) (hP : va_P D cl ws H) (hD : va_D A ws) (hS : va_S A H0 H locs) (q0 t0 : Nat) {cA : ClassId} {n : Nat} {f : Nat → Int32} (ha : ws[q0]? = some (a, .inl (cA, n, .inl f))) (ht : tys[t0]? = some (cA, .byte)) {i : Nat} {x x' : Int32} (hx : vp_nar .byte x = x') (hi : i < n) (hn : n < 2 ^ 31) (hdg : decode cc pc = .ok (.bastore, 1))
    (kk : ∀ (g : Nat → Int32) (H1 : Heap) (locs1 : List Loc), g i = x' → (∀ j, j ≠ i → g j = f j) → va_P D cl (ws.set q0 (a, .inl (cA, n, .inl g))) H1 → va_D A (ws.set q0 (a, .inl (cA, n, .inl g))) → va_S A H0 H1 locs1 → W p l e R s m args below meth c H1 locs1 cells slots Q (F0 m (pc + 1) ls rest)) : W p l e R s m args below meth c H locs cells slots Q (F0 m pc ls (.int x :: .int (nI i) :: .ref a :: rest)) := by
  refine va_bast hexec hb hK hP hD hS q0 t0 ha ht (vp_in_nI hi hn) hdg (fun H1 locs1 hP1 hD1 hS1 => ?_)
  refine kk _ H1 locs1 ?_ ?_ hP1 hD1 hS1
  · rw [nI_clamp (Nat.lt_trans hi hn), hx]; exact pk_us
  · intro j hj
    rw [nI_clamp (Nat.lt_trans hi hn)]; exact pk_un hj
theorem wz_sast (hexec : p.tables.exec = Jvm.exec) (hb : c.code = cc) (hK : va_K D cl tys s) (hP : va_P D cl ws H) (hD : va_D A ws) (hS : va_S A H0 H locs) (q0 t0 : Nat) {cA : ClassId} {n : Nat} {f : Nat → Int32} (ha : ws[q0]? = some (a, .inl (cA, n, .inl f))) (ht : tys[t0]? = some (cA, .short)) {i : Nat} {x x' : Int32} (hx : vp_nar .short x = x') (hi : i < n) (hn : n < 2 ^ 31) (hdg : decode cc pc = .ok (.sastore, 1))
    (kk : ∀ (g : Nat → Int32) (H1 : Heap) (locs1 : List Loc), g i = x' → (∀ j, j ≠ i → g j = f j) → va_P D cl (ws.set q0 (a, .inl (cA, n, .inl g))) H1 → va_D A (ws.set q0 (a, .inl (cA, n, .inl g))) → va_S A H0 H1 locs1 → W p l e R s m args below meth c H1 locs1 cells slots Q (F0 m (pc + 1) ls rest)) : W p l e R s m args below meth c H locs cells slots Q (F0 m pc ls (.int x :: .int (nI i) :: .ref a :: rest)) := by
  refine va_sast hexec hb hK hP hD hS q0 t0 ha ht (vp_in_nI hi hn) hdg (fun H1 locs1 hP1 hD1 hS1 => ?_)
  refine kk _ H1 locs1 ?_ ?_ hP1 hD1 hS1
  · rw [nI_clamp (Nat.lt_trans hi hn), hx]; exact pk_us
  · intro j hj
    rw [nI_clamp (Nat.lt_trans hi hn)]; exact pk_un hj
theorem wz_iast (hexec : p.tables.exec = Jvm.exec) (hb : c.code = cc) (hK : va_K D cl tys s) (hP : va_P D cl ws H) (hD : va_D A ws) (hS : va_S A H0 H locs) (q0 t0 : Nat) {cA : ClassId} {n : Nat} {f : Nat → Int32} (ha : ws[q0]? = some (a, .inl (cA, n, .inl f))) (ht : tys[t0]? = some (cA, .int)) {i : Nat} {x : Int32} (hi : i < n) (hn : n < 2 ^ 31) (hdg : decode cc pc = .ok (.iastore, 1))
    (kk : ∀ (g : Nat → Int32) (H1 : Heap) (locs1 : List Loc), g i = x → (∀ j, j ≠ i → g j = f j) → va_P D cl (ws.set q0 (a, .inl (cA, n, .inl g))) H1 → va_D A (ws.set q0 (a, .inl (cA, n, .inl g))) → va_S A H0 H1 locs1 → W p l e R s m args below meth c H1 locs1 cells slots Q (F0 m (pc + 1) ls rest)) : W p l e R s m args below meth c H locs cells slots Q (F0 m pc ls (.int x :: .int (nI i) :: .ref a :: rest)) := by
  refine va_iast hexec hb hK hP hD hS q0 t0 ha ht (vp_in_nI hi hn) hdg (fun H1 locs1 hP1 hD1 hS1 => ?_)
  refine kk _ H1 locs1 ?_ ?_ hP1 hD1 hS1
  · rw [nI_clamp (Nat.lt_trans hi hn)]; exact pk_us
  · intro j hj
    rw [nI_clamp (Nat.lt_trans hi hn)]; exact pk_un hj
theorem cz_blind (as : List Value) (w : va_W) (sz : Nat) : FrameBlind (va_Pc as (cz_pre D tys w sz)) := by
  intro a U g mk q
  obtain ⟨q0, q1, qP, qK, qD⟩ := q
  exact ⟨q0, q1, qP, va_K.moved (u := U) (U := U.calling g mk a) (Vm.Alike.refl U.vm) qK, qD⟩
/-- a call on an object whose world is the caller's whole world; the answer is an int -/
theorem cz_i {y : MethodName} {bytes : ByteArray} {maxL nL n index : Nat} {ret : Option FieldType} {wo : List Cond} {rm : Room} {Ts : List Cond} {own C : String} {b : Nat} {As st0 : List Value} {S : Type} {post : Int32 → S → Prop} {w' : S → va_W} {w : va_W} {ci : Nat} {fs : List Value} {q : vw_C}
    (Sx : CallFix p m c cc nL s args Ts own) (hM : MetI l y wo rm D tys (.ref b :: As) w post w') (cw : CallW R s args own C index y bytes maxL ret wo rm 0 0 n)
    (hP : va_P D vwCl w H) (hK : va_K D vwCl tys s) (hD : va_D A w) (hS : va_S A s.heap H locs) (hA : ∀ q : Nat, s.heap.size ≤ q → A q)
    (hc : vwCl[ci]? = some q) (hq : q.1 = C) (he : w[0]? = some (b, .inr (ci, fs)))
    (hn : As.length = n) (hsize : ls.size = nL) (hst : st0 = As.reverse ++ .ref b :: rest) (hr : (rest.map fun v => v.category).sum ≤ 8)
    (hdg : decode cc pc = .ok (.invokevirtual index, 3)) (hf : cells ≤ R.cells ∧ slots ≤ R.slots)
    (kk : ∀ (r : Int32) (u : S) (H1 : Heap) (locs1 : List Loc), post r u → va_P D vwCl (w' u) H1 → va_D A (w' u) → va_S A s.heap H1 locs1 → W p l e R s m args below meth c H1 locs1 cells slots Q (F0 m (pc + 3) ls (.int r :: rest))) :
    W p l e R s m args below meth c H locs cells slots Q (F0 m pc ls st0) := by
  have hF : ∀ x, va_A w H.size x → A x := by
    intro x hx
    rcases hx with ⟨k, e, h⟩ | h
    · exact hD.2 k (x, e) h
    · exact hA x (Nat.le_trans hS.1 h)
  subst hq
  refine va_calli (va_runV (As := As) (rest := rest) Sx (hM H.size) cw ⟨cz_blind _ _ _, va_recv hK hP hc he, fun U hU hW => ⟨rfl, by rw [hU], by rw [hU]; exact hP, va_K.moved hW.alike hK, hD.weaken (fun _ _ _ _ => trivial)⟩⟩ rfl hn hsize hst (lv_room hr) hdg ⟨hf.1, hf.2⟩) hS (fun x _ h => hF x h) hF (fun r u t H1 locs1 ht hvm hp hB hz hk hS1 => ?_)
  obtain ⟨hP1, hK1, hD1⟩ := hB
  rw [ht] at hP1
  exact kk r u H1 locs1 hp hP1 (hD1.weaken (fun k x _ h => hF x.1 h)) hS1
/-- the same, without an answer -/
theorem cz_v {y : MethodName} {bytes : ByteArray} {maxL nL n index : Nat} {ret : Option FieldType} {wo : List Cond} {rm : Room} {Ts : List Cond} {own C : String} {b : Nat} {As st0 : List Value} {S : Type} {post : S → Prop} {w' : S → va_W} {w : va_W} {ci : Nat} {fs : List Value} {q : vw_C}
    (Sx : CallFix p m c cc nL s args Ts own) (hM : MetV l y wo rm D tys (.ref b :: As) w post w') (cw : CallW R s args own C index y bytes maxL ret wo rm 0 0 n)
    (hP : va_P D vwCl w H) (hK : va_K D vwCl tys s) (hD : va_D A w) (hS : va_S A s.heap H locs) (hA : ∀ q : Nat, s.heap.size ≤ q → A q)
    (hc : vwCl[ci]? = some q) (hq : q.1 = C) (he : w[0]? = some (b, .inr (ci, fs)))
    (hn : As.length = n) (hsize : ls.size = nL) (hst : st0 = As.reverse ++ .ref b :: rest) (hr : (rest.map fun v => v.category).sum ≤ 8)
    (hdg : decode cc pc = .ok (.invokevirtual index, 3)) (hf : cells ≤ R.cells ∧ slots ≤ R.slots)
    (kk : ∀ (u : S) (H1 : Heap) (locs1 : List Loc), post u → va_P D vwCl (w' u) H1 → va_D A (w' u) → va_S A s.heap H1 locs1 → W p l e R s m args below meth c H1 locs1 cells slots Q (F0 m (pc + 3) ls rest)) :
    W p l e R s m args below meth c H locs cells slots Q (F0 m pc ls st0) := by
  have hF : ∀ x, va_A w H.size x → A x := by
    intro x hx
    rcases hx with ⟨k, e, h⟩ | h
    · exact hD.2 k (x, e) h
    · exact hA x (Nat.le_trans hS.1 h)
  subst hq
  refine va_callv (va_runV (As := As) (rest := rest) Sx (hM H.size) cw ⟨cz_blind _ _ _, va_recv hK hP hc he, fun U hU hW => ⟨rfl, by rw [hU], by rw [hU]; exact hP, va_K.moved hW.alike hK, hD.weaken (fun _ _ _ _ => trivial)⟩⟩ rfl hn hsize hst (lv_room hr) hdg ⟨hf.1, hf.2⟩) hS (fun x _ h => hF x h) hF (fun u t H1 locs1 ht hvm hp hB hz hk hS1 => ?_)
  obtain ⟨hP1, hK1, hD1⟩ := hB
  rw [ht] at hP1
  exact kk u H1 locs1 hp hP1 (hD1.weaken (fun k x _ h => hF x.1 h)) hS1
/-- a call on an object whose world wc is a part of the caller's world; what comes back stands behind the rest -/
theorem cz_j {y : MethodName} {bytes : ByteArray} {maxL nL n index : Nat} {ret : Option FieldType} {wo : List Cond} {rm : Room} {Ts : List Cond} {own C : String} {b : Nat} {As st0 : List Value} {S : Type} {post : Int32 → S → Prop} {w' : S → va_W} {w wc wr : va_W} {ci : Nat} {fs : List Value} {q : vw_C}
    (Sx : CallFix p m c cc nL s args Ts own) (hM : MetI l y wo rm D tys (.ref b :: As) wc post w') (cw : CallW R s args own C index y bytes maxL ret wo rm 0 0 n)
    (hP : va_P D vwCl w H) (hK : va_K D vwCl tys s) (hD : va_D A w) (hS : va_S A s.heap H locs) (hA : ∀ q : Nat, s.heap.size ≤ q → A q)
    (isC isR : List Nat) (hC : isC.map (fun i => w[i]?) = wc.map some) (hR : isR.map (fun i => w[i]?) = wr.map some) (hnC : va_nd isC = true) (hnR : va_nd isR = true) (hdis : ∀ i ∈ isR, i ∉ isC)
    (hc : vwCl[ci]? = some q) (hq : q.1 = C) (he : wc[0]? = some (b, .inr (ci, fs)))
    (hn : As.length = n) (hsize : ls.size = nL) (hst : st0 = As.reverse ++ .ref b :: rest) (hr : (rest.map fun v => v.category).sum ≤ 8)
    (hdg : decode cc pc = .ok (.invokevirtual index, 3)) (hf : cells ≤ R.cells ∧ slots ≤ R.slots)
    (kk : ∀ (r : Int32) (u : S) (H1 : Heap) (locs1 : List Loc), post r u → va_P D vwCl (wr ++ w' u) H1 → va_D A (wr ++ w' u) → va_S A s.heap H1 locs1 → W p l e R s m args below meth c H1 locs1 cells slots Q (F0 m (pc + 3) ls (.int r :: rest))) :
    W p l e R s m args below meth c H locs cells slots Q (F0 m pc ls st0) := by
  have hF := va_free (wc := wc) hD hS hA isC hC
  have hDc := hD.sub isC hnC hC
  have hPc : va_P D vwCl wc H := by
    intro k x hx
    have h1 : (isC.map (fun i => w[i]?))[k]? = some (some x) := by rw [hC, List.getElem?_map, hx]; rfl
    rw [List.getElem?_map] at h1
    cases hi : isC[k]? with
    | none => rw [hi] at h1; cases h1
    | some i => rw [hi] at h1; exact hP i x (Option.some.inj h1)
  subst hq
  refine va_calli (va_runV (As := As) (rest := rest) Sx (hM H.size) cw ⟨cz_blind _ _ _, va_recv hK hPc hc he, fun U hU hW => ⟨rfl, by rw [hU], by rw [hU]; exact hPc, va_K.moved hW.alike hK, hDc.weaken (fun _ _ _ _ => trivial)⟩⟩ rfl hn hsize hst (lv_room hr) hdg ⟨hf.1, hf.2⟩) hS (fun x _ h => hF x h) hF (fun r u t H1 locs1 ht hvm hp hB hz hk hS1 => ?_)
  obtain ⟨hP1, hK1, hD1⟩ := hB
  rw [ht] at hP1
  obtain ⟨hP2, hD2⟩ := va_join (wr := wr) (w1 := w' u) hP hD isC isR hC hR hnR hdis hk hF hP1 hD1
  exact kk r u H1 locs1 hp hP2 hD2 hS1
end BASE
end
section
/-! plain functions that the methods compute, and their laws -/
def vOk (N : Nat) (v : Int32) : Bool := decide (¬ v < 0) && decide (v < nI N)
theorem vOk_t {N : Nat} {v : Int32} (h1 : ¬ v < 0) (h2 : ¬ nI N ≤ v) : vOk N v = true := by
  unfold vOk
  rw [Bool.and_eq_true]
  exact ⟨decide_eq_true h1, decide_eq_true (Int32.not_le.mp h2)⟩
theorem vOk_f1 {N : Nat} {v : Int32} (h1 : v < 0) : vOk N v = false := by
  unfold vOk
  rw [decide_eq_false (fun q => q h1)]; rfl
theorem vOk_f2 {N : Nat} {v : Int32} (h2 : nI N ≤ v) : vOk N v = false := by
  unfold vOk
  rw [decide_eq_false (p := v < nI N) (fun q => absurd h2 (Int32.not_le.mpr q)), Bool.and_false]
theorem vOk_of {N : Nat} {v : Int32} (hN : N < 2 ^ 31) (h : vOk N v = true) : ∃ j : Nat, j < N ∧ v = nI j := by
  unfold vOk at h
  rw [Bool.and_eq_true] at h
  have h1 := of_decide_eq_true h.1
  have h2 := of_decide_eq_true h.2
  obtain ⟨j, hj, rfl⟩ := nI_of h1
  exact ⟨j, (nI_ltI hj hN).mp h2, rfl⟩
theorem vOk_nI {N j : Nat} (hN : N < 2 ^ 31) (hj : j < N) : vOk N (nI j) = true := vOk_t (nI_pos (by omega)) (nI_ge hj hN)
/-- whether a line with the owner o, taken out of t, is shown to S -/
def sh (o t S : Int32) : Bool := decide (¬ ((S >>> (o &&& 31)) &&& nI 1) = 0) && decide ((t &&& S) = 0)
theorem sh_t {o t S : Int32} (h1 : ¬ ((S >>> (o &&& 31)) &&& nI 1) = 0) (h2 : (t &&& S) = 0) : sh o t S = true := by
  unfold sh
  rw [Bool.and_eq_true]
  exact ⟨decide_eq_true h1, decide_eq_true h2⟩
theorem sh_f1 {o t S : Int32} (h1 : ((S >>> (o &&& 31)) &&& nI 1) = 0) : sh o t S = false := by
  unfold sh
  rw [decide_eq_false (fun q => q h1)]; rfl
theorem sh_f2 {o t S : Int32} (h2 : ¬ (t &&& S) = 0) : sh o t S = false := by
  unfold sh
  rw [decide_eq_false h2, Bool.and_false]
def pv (ow tk : Nat → Int32) (S : Int32) : Nat → Bool := fun k => sh (ow k) (tk k) S
/-- how many below n -/
def cnt (p : Nat → Bool) : Nat → Nat
  | 0 => 0
  | n + 1 => cnt p n + (if p n = true then 1 else 0)
theorem cnt_t {p : Nat → Bool} {n : Nat} (h : p n = true) : cnt p (n + 1) = cnt p n + 1 := by
  show cnt p n + (if p n = true then 1 else 0) = _
  rw [if_pos h]
theorem cnt_f {p : Nat → Bool} {n : Nat} (h : p n = false) : cnt p (n + 1) = cnt p n := by
  show cnt p n + (if p n = true then 1 else 0) = _
  rw [if_neg (by rw [h]; decide)]; rfl
theorem cnt_le (p : Nat → Bool) (n : Nat) : cnt p n ≤ n := by
  induction n with
  | zero => exact Nat.le_refl _
  | succ n ih =>
    cases h : p n with
    | true => rw [cnt_t h]; omega
    | false => rw [cnt_f h]; omega
theorem cnt_mono (p : Nat → Bool) {a b : Nat} (h : a ≤ b) : cnt p a ≤ cnt p b := by
  induction b with
  | zero => obtain rfl : a = 0 := by omega
            exact Nat.le_refl _
  | succ b ih =>
    rcases Nat.lt_or_ge b a with q | q
    · obtain rfl : a = b + 1 := by omega
      exact Nat.le_refl _
    · have h1 := ih q
      cases h2 : p b with
      | true => rw [cnt_t h2]; omega
      | false => rw [cnt_f h2]; omega
theorem cnt_lt {p : Nat → Bool} {a b : Nat} (hp : p a = true) (h : a < b) : cnt p a < cnt p b := by
  have h1 := cnt_mono p (show a + 1 ≤ b from h)
  rw [cnt_t hp] at h1
  omega
theorem cnt_inj {p : Nat → Bool} {a b : Nat} (ha : p a = true) (hb : p b = true) (h : cnt p a = cnt p b) : a = b := by
  rcases Nat.lt_trichotomy a b with q | q | q
  · have := cnt_lt ha q; omega
  · exact q
  · have := cnt_lt hb q; omega
theorem cnt_congr {p q : Nat → Bool} {n : Nat} (h : ∀ k, k < n → p k = q k) : cnt p n = cnt q n := by
  induction n with
  | zero => rfl
  | succ n ih =>
    have h1 := ih (fun k hk => h k (by omega))
    have h2 := h n (by omega)
    cases h3 : q n with
    | true => rw [cnt_t (h2.trans h3), cnt_t h3, h1]
    | false => rw [cnt_f (h2.trans h3), cnt_f h3, h1]
/-- the j-th place below n -/
def sel (p : Nat → Bool) : Nat → Nat → Nat
  | 0, _ => 0
  | n + 1, j => if p n = true ∧ cnt p n = j then n else sel p n j
theorem sel_at {p : Nat → Bool} {n k : Nat} (hk : k < n) (hp : p k = true) : sel p n (cnt p k) = k := by
  induction n with
  | zero => omega
  | succ n ih =>
    show (if p n = true ∧ cnt p n = cnt p k then n else sel p n (cnt p k)) = k
    by_cases h : p n = true ∧ cnt p n = cnt p k
    · rw [if_pos h]; exact cnt_inj h.1 hp h.2
    · rw [if_neg h]
      refine ih ?_
      rcases Nat.lt_or_ge k n with q | q
      · exact q
      · obtain rfl : k = n := by omega
        exact absurd ⟨hp, rfl⟩ h
theorem sel_ex {p : Nat → Bool} {n j : Nat} (h : j < cnt p n) : ∃ k, k < n ∧ p k = true ∧ cnt p k = j ∧ sel p n j = k := by
  induction n with
  | zero => exact absurd h (Nat.not_lt_zero _)
  | succ n ih =>
    by_cases h1 : j < cnt p n
    · obtain ⟨k, a, b, d, -⟩ := ih h1
      exact ⟨k, by omega, b, d, by rw [← d]; exact sel_at (by omega) b⟩
    · cases h2 : p n with
      | true =>
        rw [cnt_t h2] at h
        have e : cnt p n = j := by omega
        exact ⟨n, by omega, h2, e, by rw [← e]; exact sel_at (by omega) h2⟩
      | false =>
        rw [cnt_f h2] at h
        exact absurd h h1
def fnd (p : Nat → Bool) (T j : Nat) : Int32 := if j < cnt p T then nI (sel p T j) else -1
theorem fnd_at {p : Nat → Bool} {T k : Nat} (hk : k < T) (hp : p k = true) : fnd p T (cnt p k) = nI k := by
  unfold fnd
  rw [if_pos (cnt_lt hp hk), sel_at hk hp]
theorem fnd_none {p : Nat → Bool} {T j : Nat} (h : cnt p T ≤ j) : fnd p T j = -1 := by
  unfold fnd
  rw [if_neg (by omega)]
theorem fnd_cases (p : Nat → Bool) (T j : Nat) : (cnt p T ≤ j ∧ fnd p T j = -1) ∨ ∃ k, k < T ∧ p k = true ∧ cnt p k = j ∧ fnd p T j = nI k := by
  rcases Nat.lt_or_ge j (cnt p T) with h | h
  · obtain ⟨k, a, b, d, -⟩ := sel_ex h
    exact Or.inr ⟨k, a, b, d, by rw [← d]; exact fnd_at a b⟩
  · exact Or.inl ⟨h, fnd_none h⟩
/-- a change of the counted variable: below cnt p T, or by the places that p holds at -/
theorem cnt_sub (p g : Nat → Bool) (T : Nat) : cnt g (cnt p T) = cnt (fun k => p k && g (cnt p k)) T := by
  induction T with
  | zero => rfl
  | succ n ih =>
    cases h : p n with
    | true =>
      rw [cnt_t h]
      cases h2 : g (cnt p n) with
      | true => rw [cnt_t h2, ih, cnt_t (show (p n && g (cnt p n)) = true by rw [h, h2]; rfl)]
      | false => rw [cnt_f h2, ih, cnt_f (show (p n && g (cnt p n)) = false by rw [h, h2]; rfl)]
    | false =>
      rw [cnt_f h, ih, cnt_f (show (p n && g (cnt p n)) = false by rw [h]; rfl)]
/-- whether n stands among the first values of f -/
def has (f : Nat → Int32) (n : Int32) : Nat → Bool
  | 0 => false
  | k + 1 => has f n k || decide (f k = n)
theorem has_iff {f : Nat → Int32} {n : Int32} {k : Nat} : has f n k = true ↔ ∃ i, i < k ∧ f i = n := by
  induction k with
  | zero => exact ⟨fun h => (by cases h), fun ⟨i, h, _⟩ => absurd h (Nat.not_lt_zero _)⟩
  | succ k ih =>
    show (has f n k || decide (f k = n)) = true ↔ _
    rw [Bool.or_eq_true, ih, decide_eq_true_eq]
    constructor
    · rintro (⟨i, a, b⟩ | h)
      · exact ⟨i, by omega, b⟩
      · exact ⟨k, by omega, h⟩
    · rintro ⟨i, a, b⟩
      rcases Nat.lt_or_ge i k with q | q
      · exact Or.inl ⟨i, q, b⟩
      · obtain rfl : i = k := by omega
        exact Or.inr b
theorem has_s {f : Nat → Int32} {n : Int32} {k : Nat} (h : has f n k = false) (h2 : ¬ f k = n) : has f n (k + 1) = false := by
  show (has f n k || decide (f k = n)) = false
  rw [h, decide_eq_false h2]; rfl
/-- the first place of n among the first values of f; -1 when there is none -/
def ffi (f : Nat → Int32) (n : Int32) : Nat → Int32
  | 0 => -1
  | k + 1 => if has f n k = true then ffi f n k else if f k = n then nI k else -1
theorem ffi_at {f : Nat → Int32} {n : Int32} {i k : Nat} (h1 : has f n i = false) (h2 : f i = n) (hk : i < k) : ffi f n k = nI i := by
  induction k with
  | zero => omega
  | succ k ih =>
    show (if has f n k = true then ffi f n k else if f k = n then nI k else -1) = _
    by_cases hik : i < k
    · rw [if_pos (has_iff.mpr ⟨i, hik, h2⟩)]; exact ih hik
    · obtain rfl : i = k := by omega
      rw [if_neg (by rw [h1]; decide), if_pos h2]
theorem ffi_none {f : Nat → Int32} {n : Int32} {k : Nat} (h : has f n k = false) : ffi f n k = -1 := by
  cases k with
  | zero => rfl
  | succ k =>
    show (if has f n k = true then ffi f n k else if f k = n then nI k else -1) = _
    have h' : (has f n k || decide (f k = n)) = false := h
    rw [Bool.or_eq_false_iff] at h'
    rw [if_neg (by rw [h'.1]; decide), if_neg (of_decide_eq_false h'.2)]
theorem ffi_cases (f : Nat → Int32) (n : Int32) (k : Nat) : (has f n k = false ∧ ffi f n k = -1) ∨ (has f n k = true ∧ ∃ i, i < k ∧ f i = n ∧ ffi f n k = nI i) := by
  cases h : has f n k with
  | false => exact Or.inl ⟨rfl, ffi_none h⟩
  | true =>
    obtain ⟨i, hi, hmin⟩ := pk_least (fun i => i < k ∧ f i = n) (has_iff.mp h)
    have h0 : has f n i = false := by
      cases q : has f n i with
      | false => rfl
      | true =>
        obtain ⟨j, a, b⟩ := has_iff.mp q
        exact absurd ⟨by omega, b⟩ (hmin j a)
    exact Or.inr ⟨rfl, i, hi.1, hi.2, ffi_at h0 hi.2 hi.1⟩
/-- a set of bits below n -/
def bset (f : Nat → Bool) : Nat → Int32
  | 0 => nI 0
  | k + 1 => if f k = true then bset f k ||| (nI 1 <<< (nI k &&& 31)) else bset f k
theorem bset_t {f : Nat → Bool} {k : Nat} (h : f k = true) : bset f k ||| (nI 1 <<< (nI k &&& 31)) = bset f (k + 1) := by
  show _ = if f k = true then _ else _
  rw [if_pos h]
theorem bset_f {f : Nat → Bool} {k : Nat} (h : f k = false) : bset f k = bset f (k + 1) := by
  show _ = if f k = true then _ else _
  rw [if_neg (by rw [h]; decide)]
theorem or_nI0 (x : Int32) : x ||| nI 0 = x := by
  rw [nI_0]
  apply Int32.toBitVec_inj.mp
  simp
theorem bset_congr {f g : Nat → Bool} {n : Nat} (h : ∀ k, k < n → f k = g k) : bset f n = bset g n := by
  induction n with
  | zero => rfl
  | succ n ih =>
    have h1 := ih (fun k hk => h k (by omega))
    have h2 := h n (by omega)
    show (if f n = true then _ else _) = (if g n = true then _ else _)
    rw [h2, h1]
/-- x is put in at the place a of the first n values -/
def insP (a n : Nat) (f : Nat → Int32) (x : Int32) (g : Nat → Int32) : Prop := (∀ k, k < a → g k = f k) ∧ g a = x ∧ ∀ k, a ≤ k → k < n → g (k + 1) = f k
def cbit (N : Nat) : Int32 := nI 1 <<< (nI N &&& 31)
def clr (N : Nat) (t : Int32) : Int32 := t &&& (cbit N ^^^ (-1))
def keep (N : Nat) (ow : Nat → Int32) : Nat → Bool := fun k => decide (¬ ow k = nI N)
def swP (N T : Nat) (co ow tk : Nat → Int32) (T' : Nat) (co' ow' tk' : Nat → Int32) : Prop := T' = cnt (keep N ow) T ∧ ∀ k, k < T → keep N ow k = true → co' (cnt (keep N ow) k) = co k ∧ ow' (cnt (keep N ow) k) = ow k ∧ tk' (cnt (keep N ow) k) = clr N (tk k)
def putBad (dr x i : Int32) (n : Nat) : Prop := dr = 0 ∨ x < 0 ∨ nI 99 < x ∨ i < 0 ∨ nI n < i
def cutBad (dr i : Int32) (n : Nat) : Prop := dr = 0 ∨ i < 0 ∨ nI n ≤ i
def drf (dr what : Int32) (a f : Nat) : Int32 := if dr = 0 ∨ what < 0 ∨ nI 2 < what then -1 else if what = 0 then nI a else if what = nI 1 then nI a - nI f else nI f
def noneAt (N : Nat) (len : Nat → Nat) (v i : Int32) : Prop := vOk N v = false ∨ i < 0 ∨ ∃ j, j < N ∧ v = nI j ∧ nI (len j) ≤ i
end
section
/-! the worlds of the two classes, and a row a field, a row an array -/
/-- the cells of a WeaveStore -/
abbrev XW (h0 h1 h2 h3 h4 h5 : Nat) (d1 d2 d3 d4 d5 : ClassId) (T : Nat) (co : Nat → Int32) (ow : Nat → Int32) (tk : Nat → Int32) (N : Nat) (ba : Nat → Int32) (li : Nat → Int32) (dr : Int32) : va_W := [(h0, .inr (0, [.int (nI T), .ref h1, .ref h2, .ref h3, .int (nI N), .ref h4, .ref h5, .int dr])), (h1, .inl (d1, 30, .inl co)), (h2, .inl (d2, 30, .inl ow)), (h3, .inl (d3, 30, .inl tk)), (h4, .inl (d4, 13, .inl ba)), (h5, .inl (d5, 13, .inl li))]
abbrev TYX (d1 d2 d3 d4 d5 : ClassId) : List (ClassId × FieldType) := [(d1, .byte), (d2, .byte), (d3, .short), (d4, .byte), (d5, .short)]
abbrev XS : Type := Nat × (Nat → Int32) × (Nat → Int32) × (Nat → Int32) × Nat × (Nat → Int32) × (Nat → Int32) × Int32
abbrev XU (h0 h1 h2 h3 h4 h5 : Nat) (d1 d2 d3 d4 d5 : ClassId) (u : XS) : va_W := XW h0 h1 h2 h3 h4 h5 d1 d2 d3 d4 d5 (u.1) (u.2.1) (u.2.2.1) (u.2.2.2.1) (u.2.2.2.2.1) (u.2.2.2.2.2.1) (u.2.2.2.2.2.2.1) (u.2.2.2.2.2.2.2)
section WX
variable {p : Program} {l : Launch} {e : Env} {R : Room} {s : State} {m : MethodId} {args : Array Value} {below : List Frame} {meth : Method} {c : Code} {H : Heap} {locs : List Loc} {cells slots : Nat} {Q : State → Prop}
variable {cc : ByteArray} {pc : Nat} {ls : Array Slot} {rest : List Value} {D : va_G} {tys : List (ClassId × FieldType)} {A : Nat → Prop} {H0 : Heap}
variable {h0 h1 h2 h3 h4 h5 : Nat} {d1 d2 d3 d4 d5 : ClassId} {T : Nat} {co : Nat → Int32} {ow : Nat → Int32} {tk : Nat → Int32} {N : Nat} {ba : Nat → Int32} {li : Nat → Int32} {dr : Int32}
theorem gX_total (hx : p.tables.exec = Jvm.exec) (hb : c.code = cc) (hts : ∀ w ∈ lw_all, w.before args s = true) (hown : s.vm.findClass RX0 = some m.cls) (hK : va_K D vwCl tys s) (hP : va_P D vwCl (XW h0 h1 h2 h3 h4 h5 d1 d2 d3 d4 d5 T co ow tk N ba li dr) H) (hdg : decode cc pc = .ok (.getfield 30, 3)) (kk : W p l e R s m args below meth c H locs cells slots Q (F0 m (pc + 3) ls (.int (nI T) :: rest))) : W p l e R s m args below meth c H locs cells slots Q (F0 m pc ls (.ref h0 :: rest)) :=
  va_get (D := D) (ci := 0) (v := .int (nI T)) (C := RX0) (T := TX0) (N := 8) hx hb hts in_X0 hown hK hP 0 rfl rfl 0 (by decide) (hts _ q21) (fun _ h9 => h9) rfl hdg kk
theorem gX_contents (hx : p.tables.exec = Jvm.exec) (hb : c.code = cc) (hts : ∀ w ∈ lw_all, w.before args s = true) (hown : s.vm.findClass RX0 = some m.cls) (hK : va_K D vwCl tys s) (hP : va_P D vwCl (XW h0 h1 h2 h3 h4 h5 d1 d2 d3 d4 d5 T co ow tk N ba li dr) H) (hdg : decode cc pc = .ok (.getfield 7, 3)) (kk : W p l e R s m args below meth c H locs cells slots Q (F0 m (pc + 3) ls (.ref h1 :: rest))) : W p l e R s m args below meth c H locs cells slots Q (F0 m pc ls (.ref h0 :: rest)) :=
  va_get (D := D) (ci := 0) (v := .ref h1) (C := RX0) (T := TX0) (N := 8) hx hb hts in_X0 hown hK hP 0 rfl rfl 1 (by decide) (hts _ q22) (fun _ h9 => h9) rfl hdg kk
theorem gX_owners (hx : p.tables.exec = Jvm.exec) (hb : c.code = cc) (hts : ∀ w ∈ lw_all, w.before args s = true) (hown : s.vm.findClass RX0 = some m.cls) (hK : va_K D vwCl tys s) (hP : va_P D vwCl (XW h0 h1 h2 h3 h4 h5 d1 d2 d3 d4 d5 T co ow tk N ba li dr) H) (hdg : decode cc pc = .ok (.getfield 13, 3)) (kk : W p l e R s m args below meth c H locs cells slots Q (F0 m (pc + 3) ls (.ref h2 :: rest))) : W p l e R s m args below meth c H locs cells slots Q (F0 m pc ls (.ref h0 :: rest)) :=
  va_get (D := D) (ci := 0) (v := .ref h2) (C := RX0) (T := TX0) (N := 8) hx hb hts in_X0 hown hK hP 0 rfl rfl 2 (by decide) (hts _ q23) (fun _ h9 => h9) rfl hdg kk
theorem gX_takenOut (hx : p.tables.exec = Jvm.exec) (hb : c.code = cc) (hts : ∀ w ∈ lw_all, w.before args s = true) (hown : s.vm.findClass RX0 = some m.cls) (hK : va_K D vwCl tys s) (hP : va_P D vwCl (XW h0 h1 h2 h3 h4 h5 d1 d2 d3 d4 d5 T co ow tk N ba li dr) H) (hdg : decode cc pc = .ok (.getfield 16, 3)) (kk : W p l e R s m args below meth c H locs cells slots Q (F0 m (pc + 3) ls (.ref h3 :: rest))) : W p l e R s m args below meth c H locs cells slots Q (F0 m pc ls (.ref h0 :: rest)) :=
  va_get (D := D) (ci := 0) (v := .ref h3) (C := RX0) (T := TX0) (N := 8) hx hb hts in_X0 hown hK hP 0 rfl rfl 3 (by decide) (hts _ q24) (fun _ h9 => h9) rfl hdg kk
theorem gX_count (hx : p.tables.exec = Jvm.exec) (hb : c.code = cc) (hts : ∀ w ∈ lw_all, w.before args s = true) (hown : s.vm.findClass RX0 = some m.cls) (hK : va_K D vwCl tys s) (hP : va_P D vwCl (XW h0 h1 h2 h3 h4 h5 d1 d2 d3 d4 d5 T co ow tk N ba li dr) H) (hdg : decode cc pc = .ok (.getfield 20, 3)) (kk : W p l e R s m args below meth c H locs cells slots Q (F0 m (pc + 3) ls (.int (nI N) :: rest))) : W p l e R s m args below meth c H locs cells slots Q (F0 m pc ls (.ref h0 :: rest)) :=
  va_get (D := D) (ci := 0) (v := .int (nI N)) (C := RX0) (T := TX0) (N := 8) hx hb hts in_X0 hown hK hP 0 rfl rfl 4 (by decide) (hts _ q25) (fun _ h9 => h9) rfl hdg kk
theorem gX_bases (hx : p.tables.exec = Jvm.exec) (hb : c.code = cc) (hts : ∀ w ∈ lw_all, w.before args s = true) (hown : s.vm.findClass RX0 = some m.cls) (hK : va_K D vwCl tys s) (hP : va_P D vwCl (XW h0 h1 h2 h3 h4 h5 d1 d2 d3 d4 d5 T co ow tk N ba li dr) H) (hdg : decode cc pc = .ok (.getfield 24, 3)) (kk : W p l e R s m args below meth c H locs cells slots Q (F0 m (pc + 3) ls (.ref h4 :: rest))) : W p l e R s m args below meth c H locs cells slots Q (F0 m pc ls (.ref h0 :: rest)) :=
  va_get (D := D) (ci := 0) (v := .ref h4) (C := RX0) (T := TX0) (N := 8) hx hb hts in_X0 hown hK hP 0 rfl rfl 5 (by decide) (hts _ q26) (fun _ h9 => h9) rfl hdg kk
theorem gX_lineage (hx : p.tables.exec = Jvm.exec) (hb : c.code = cc) (hts : ∀ w ∈ lw_all, w.before args s = true) (hown : s.vm.findClass RX0 = some m.cls) (hK : va_K D vwCl tys s) (hP : va_P D vwCl (XW h0 h1 h2 h3 h4 h5 d1 d2 d3 d4 d5 T co ow tk N ba li dr) H) (hdg : decode cc pc = .ok (.getfield 27, 3)) (kk : W p l e R s m args below meth c H locs cells slots Q (F0 m (pc + 3) ls (.ref h5 :: rest))) : W p l e R s m args below meth c H locs cells slots Q (F0 m pc ls (.ref h0 :: rest)) :=
  va_get (D := D) (ci := 0) (v := .ref h5) (C := RX0) (T := TX0) (N := 8) hx hb hts in_X0 hown hK hP 0 rfl rfl 6 (by decide) (hts _ q27) (fun _ h9 => h9) rfl hdg kk
theorem gX_drafting (hx : p.tables.exec = Jvm.exec) (hb : c.code = cc) (hts : ∀ w ∈ lw_all, w.before args s = true) (hown : s.vm.findClass RX0 = some m.cls) (hK : va_K D vwCl tys s) (hP : va_P D vwCl (XW h0 h1 h2 h3 h4 h5 d1 d2 d3 d4 d5 T co ow tk N ba li dr) H) (hdg : decode cc pc = .ok (.getfield 41, 3)) (kk : W p l e R s m args below meth c H locs cells slots Q (F0 m (pc + 3) ls (.int dr :: rest))) : W p l e R s m args below meth c H locs cells slots Q (F0 m pc ls (.ref h0 :: rest)) :=
  va_get (D := D) (ci := 0) (v := .int dr) (C := RX0) (T := TX0) (N := 8) hx hb hts in_X0 hown hK hP 0 rfl rfl 7 (by decide) (hts _ q28) (fun _ h9 => h9) rfl hdg kk
theorem uX_total (hx : p.tables.exec = Jvm.exec) (hb : c.code = cc) (hts : ∀ w ∈ lw_all, w.before args s = true) (hown : s.vm.findClass RX0 = some m.cls) (hK : va_K D vwCl tys s) (hP : va_P D vwCl (XW h0 h1 h2 h3 h4 h5 d1 d2 d3 d4 d5 T co ow tk N ba li dr) H) (hD : va_D A (XW h0 h1 h2 h3 h4 h5 d1 d2 d3 d4 d5 T co ow tk N ba li dr)) (hS : va_S A H0 H locs) {x : Nat} (hdg : decode cc pc = .ok (.putfield 30, 3)) (kk : ∀ (H1 : Heap) (locs1 : List Loc), va_P D vwCl (XW h0 h1 h2 h3 h4 h5 d1 d2 d3 d4 d5 x co ow tk N ba li dr) H1 → va_D A (XW h0 h1 h2 h3 h4 h5 d1 d2 d3 d4 d5 x co ow tk N ba li dr) → va_S A H0 H1 locs1 → W p l e R s m args below meth c H1 locs1 cells slots Q (F0 m (pc + 3) ls rest)) : W p l e R s m args below meth c H locs cells slots Q (F0 m pc ls (.int (nI x) :: .ref h0 :: rest)) :=
  va_put (D := D) (ci := 0) (v := .int (nI x)) (ty := .int) (C := RX0) (T := TX0) (N := 8) hx hb hts in_X0 tyX0 tyX0_ok nmX0 hown hK hP hD hS 0 rfl rfl 0 (by decide) (hts _ q21) (fun _ h9 => h9) rfl (by decide +kernel) rfl rfl (Nat.le_of_ble_eq_true rfl) hdg (fun H1 locs1 hP1 hD1 hS1 => kk H1 locs1 hP1 hD1 hS1)
theorem uX_count (hx : p.tables.exec = Jvm.exec) (hb : c.code = cc) (hts : ∀ w ∈ lw_all, w.before args s = true) (hown : s.vm.findClass RX0 = some m.cls) (hK : va_K D vwCl tys s) (hP : va_P D vwCl (XW h0 h1 h2 h3 h4 h5 d1 d2 d3 d4 d5 T co ow tk N ba li dr) H) (hD : va_D A (XW h0 h1 h2 h3 h4 h5 d1 d2 d3 d4 d5 T co ow tk N ba li dr)) (hS : va_S A H0 H locs) {x : Nat} (hdg : decode cc pc = .ok (.putfield 20, 3)) (kk : ∀ (H1 : Heap) (locs1 : List Loc), va_P D vwCl (XW h0 h1 h2 h3 h4 h5 d1 d2 d3 d4 d5 T co ow tk x ba li dr) H1 → va_D A (XW h0 h1 h2 h3 h4 h5 d1 d2 d3 d4 d5 T co ow tk x ba li dr) → va_S A H0 H1 locs1 → W p l e R s m args below meth c H1 locs1 cells slots Q (F0 m (pc + 3) ls rest)) : W p l e R s m args below meth c H locs cells slots Q (F0 m pc ls (.int (nI x) :: .ref h0 :: rest)) :=
  va_put (D := D) (ci := 0) (v := .int (nI x)) (ty := .int) (C := RX0) (T := TX0) (N := 8) hx hb hts in_X0 tyX0 tyX0_ok nmX0 hown hK hP hD hS 0 rfl rfl 4 (by decide) (hts _ q25) (fun _ h9 => h9) rfl (by decide +kernel) rfl rfl (Nat.le_of_ble_eq_true rfl) hdg (fun H1 locs1 hP1 hD1 hS1 => kk H1 locs1 hP1 hD1 hS1)
theorem uX_drafting (hx : p.tables.exec = Jvm.exec) (hb : c.code = cc) (hts : ∀ w ∈ lw_all, w.before args s = true) (hown : s.vm.findClass RX0 = some m.cls) (hK : va_K D vwCl tys s) (hP : va_P D vwCl (XW h0 h1 h2 h3 h4 h5 d1 d2 d3 d4 d5 T co ow tk N ba li dr) H) (hD : va_D A (XW h0 h1 h2 h3 h4 h5 d1 d2 d3 d4 d5 T co ow tk N ba li dr)) (hS : va_S A H0 H locs) {x : Int32} (hn : narrow .boolean (.int x) = .int x) (hfit : fits .boolean (.int x) = true) (hdg : decode cc pc = .ok (.putfield 41, 3)) (kk : ∀ (H1 : Heap) (locs1 : List Loc), va_P D vwCl (XW h0 h1 h2 h3 h4 h5 d1 d2 d3 d4 d5 T co ow tk N ba li x) H1 → va_D A (XW h0 h1 h2 h3 h4 h5 d1 d2 d3 d4 d5 T co ow tk N ba li x) → va_S A H0 H1 locs1 → W p l e R s m args below meth c H1 locs1 cells slots Q (F0 m (pc + 3) ls rest)) : W p l e R s m args below meth c H locs cells slots Q (F0 m pc ls (.int x :: .ref h0 :: rest)) :=
  va_put (D := D) (ci := 0) (v := .int x) (ty := .boolean) (C := RX0) (T := TX0) (N := 8) hx hb hts in_X0 tyX0 tyX0_ok nmX0 hown hK hP hD hS 0 rfl rfl 7 (by decide) (hts _ q28) (fun _ h9 => h9) rfl (by decide +kernel) hn hfit (Nat.le_of_ble_eq_true rfl) hdg (fun H1 locs1 hP1 hD1 hS1 => kk H1 locs1 hP1 hD1 hS1)
theorem lX_contents (hx : p.tables.exec = Jvm.exec) (hb : c.code = cc) (hK : va_K D vwCl (TYX d1 d2 d3 d4 d5) s) (hP : va_P D vwCl (XW h0 h1 h2 h3 h4 h5 d1 d2 d3 d4 d5 T co ow tk N ba li dr) H) {i : Nat} (hi : i < 30) (hdg : decode cc pc = .ok (.baload, 1)) (kk : W p l e R s m args below meth c H locs cells slots Q (F0 m (pc + 1) ls (.int (co i) :: rest))) : W p l e R s m args below meth c H locs cells slots Q (F0 m pc ls (.int (nI i) :: .ref h1 :: rest)) :=
  wz_bald hx hb hK hP 1 0 rfl rfl hi (by decide) hdg kk
theorem sX_contents (hx : p.tables.exec = Jvm.exec) (hb : c.code = cc) (hK : va_K D vwCl (TYX d1 d2 d3 d4 d5) s) (hP : va_P D vwCl (XW h0 h1 h2 h3 h4 h5 d1 d2 d3 d4 d5 T co ow tk N ba li dr) H) (hD : va_D A (XW h0 h1 h2 h3 h4 h5 d1 d2 d3 d4 d5 T co ow tk N ba li dr)) (hS : va_S A H0 H locs) {i : Nat} {x x2 : Int32} (hn : vp_nar .byte x = x2) (hi : i < 30) (hdg : decode cc pc = .ok (.bastore, 1)) (kk : ∀ (y : Nat → Int32) (H1 : Heap) (locs1 : List Loc), y i = x2 → (∀ j, j ≠ i → y j = co j) → va_P D vwCl (XW h0 h1 h2 h3 h4 h5 d1 d2 d3 d4 d5 T y ow tk N ba li dr) H1 → va_D A (XW h0 h1 h2 h3 h4 h5 d1 d2 d3 d4 d5 T y ow tk N ba li dr) → va_S A H0 H1 locs1 → W p l e R s m args below meth c H1 locs1 cells slots Q (F0 m (pc + 1) ls rest)) : W p l e R s m args below meth c H locs cells slots Q (F0 m pc ls (.int x :: .int (nI i) :: .ref h1 :: rest)) :=
  wz_bast hx hb hK hP hD hS 1 0 rfl rfl hn hi (by decide) hdg (fun y H1 locs1 e1 e2 hP1 hD1 hS1 => kk y H1 locs1 e1 e2 hP1 hD1 hS1)
theorem lX_owners (hx : p.tables.exec = Jvm.exec) (hb : c.code = cc) (hK : va_K D vwCl (TYX d1 d2 d3 d4 d5) s) (hP : va_P D vwCl (XW h0 h1 h2 h3 h4 h5 d1 d2 d3 d4 d5 T co ow tk N ba li dr) H) {i : Nat} (hi : i < 30) (hdg : decode cc pc = .ok (.baload, 1)) (kk : W p l e R s m args below meth c H locs cells slots Q (F0 m (pc + 1) ls (.int (ow i) :: rest))) : W p l e R s m args below meth c H locs cells slots Q (F0 m pc ls (.int (nI i) :: .ref h2 :: rest)) :=
  wz_bald hx hb hK hP 2 1 rfl rfl hi (by decide) hdg kk
theorem sX_owners (hx : p.tables.exec = Jvm.exec) (hb : c.code = cc) (hK : va_K D vwCl (TYX d1 d2 d3 d4 d5) s) (hP : va_P D vwCl (XW h0 h1 h2 h3 h4 h5 d1 d2 d3 d4 d5 T co ow tk N ba li dr) H) (hD : va_D A (XW h0 h1 h2 h3 h4 h5 d1 d2 d3 d4 d5 T co ow tk N ba li dr)) (hS : va_S A H0 H locs) {i : Nat} {x x2 : Int32} (hn : vp_nar .byte x = x2) (hi : i < 30) (hdg : decode cc pc = .ok (.bastore, 1)) (kk : ∀ (y : Nat → Int32) (H1 : Heap) (locs1 : List Loc), y i = x2 → (∀ j, j ≠ i → y j = ow j) → va_P D vwCl (XW h0 h1 h2 h3 h4 h5 d1 d2 d3 d4 d5 T co y tk N ba li dr) H1 → va_D A (XW h0 h1 h2 h3 h4 h5 d1 d2 d3 d4 d5 T co y tk N ba li dr) → va_S A H0 H1 locs1 → W p l e R s m args below meth c H1 locs1 cells slots Q (F0 m (pc + 1) ls rest)) : W p l e R s m args below meth c H locs cells slots Q (F0 m pc ls (.int x :: .int (nI i) :: .ref h2 :: rest)) :=
  wz_bast hx hb hK hP hD hS 2 1 rfl rfl hn hi (by decide) hdg (fun y H1 locs1 e1 e2 hP1 hD1 hS1 => kk y H1 locs1 e1 e2 hP1 hD1 hS1)
theorem lX_takenOut (hx : p.tables.exec = Jvm.exec) (hb : c.code = cc) (hK : va_K D vwCl (TYX d1 d2 d3 d4 d5) s) (hP : va_P D vwCl (XW h0 h1 h2 h3 h4 h5 d1 d2 d3 d4 d5 T co ow tk N ba li dr) H) {i : Nat} (hi : i < 30) (hdg : decode cc pc = .ok (.saload, 1)) (kk : W p l e R s m args below meth c H locs cells slots Q (F0 m (pc + 1) ls (.int (tk i) :: rest))) : W p l e R s m args below meth c H locs cells slots Q (F0 m pc ls (.int (nI i) :: .ref h3 :: rest)) :=
  wz_sald hx hb hK hP 3 2 rfl rfl hi (by decide) hdg kk
theorem sX_takenOut (hx : p.tables.exec = Jvm.exec) (hb : c.code = cc) (hK : va_K D vwCl (TYX d1 d2 d3 d4 d5) s) (hP : va_P D vwCl (XW h0 h1 h2 h3 h4 h5 d1 d2 d3 d4 d5 T co ow tk N ba li dr) H) (hD : va_D A (XW h0 h1 h2 h3 h4 h5 d1 d2 d3 d4 d5 T co ow tk N ba li dr)) (hS : va_S A H0 H locs) {i : Nat} {x x2 : Int32} (hn : vp_nar .short x = x2) (hi : i < 30) (hdg : decode cc pc = .ok (.sastore, 1)) (kk : ∀ (y : Nat → Int32) (H1 : Heap) (locs1 : List Loc), y i = x2 → (∀ j, j ≠ i → y j = tk j) → va_P D vwCl (XW h0 h1 h2 h3 h4 h5 d1 d2 d3 d4 d5 T co ow y N ba li dr) H1 → va_D A (XW h0 h1 h2 h3 h4 h5 d1 d2 d3 d4 d5 T co ow y N ba li dr) → va_S A H0 H1 locs1 → W p l e R s m args below meth c H1 locs1 cells slots Q (F0 m (pc + 1) ls rest)) : W p l e R s m args below meth c H locs cells slots Q (F0 m pc ls (.int x :: .int (nI i) :: .ref h3 :: rest)) :=
  wz_sast hx hb hK hP hD hS 3 2 rfl rfl hn hi (by decide) hdg (fun y H1 locs1 e1 e2 hP1 hD1 hS1 => kk y H1 locs1 e1 e2 hP1 hD1 hS1)
theorem lX_bases (hx : p.tables.exec = Jvm.exec) (hb : c.code = cc) (hK : va_K D vwCl (TYX d1 d2 d3 d4 d5) s) (hP : va_P D vwCl (XW h0 h1 h2 h3 h4 h5 d1 d2 d3 d4 d5 T co ow tk N ba li dr) H) {i : Nat} (hi : i < 13) (hdg : decode cc pc = .ok (.baload, 1)) (kk : W p l e R s m args below meth c H locs cells slots Q (F0 m (pc + 1) ls (.int (ba i) :: rest))) : W p l e R s m args below meth c H locs cells slots Q (F0 m pc ls (.int (nI i) :: .ref h4 :: rest)) :=
  wz_bald hx hb hK hP 4 3 rfl rfl hi (by decide) hdg kk
theorem sX_bases (hx : p.tables.exec = Jvm.exec) (hb : c.code = cc) (hK : va_K D vwCl (TYX d1 d2 d3 d4 d5) s) (hP : va_P D vwCl (XW h0 h1 h2 h3 h4 h5 d1 d2 d3 d4 d5 T co ow tk N ba li dr) H) (hD : va_D A (XW h0 h1 h2 h3 h4 h5 d1 d2 d3 d4 d5 T co ow tk N ba li dr)) (hS : va_S A H0 H locs) {i : Nat} {x x2 : Int32} (hn : vp_nar .byte x = x2) (hi : i < 13) (hdg : decode cc pc = .ok (.bastore, 1)) (kk : ∀ (y : Nat → Int32) (H1 : Heap) (locs1 : List Loc), y i = x2 → (∀ j, j ≠ i → y j = ba j) → va_P D vwCl (XW h0 h1 h2 h3 h4 h5 d1 d2 d3 d4 d5 T co ow tk N y li dr) H1 → va_D A (XW h0 h1 h2 h3 h4 h5 d1 d2 d3 d4 d5 T co ow tk N y li dr) → va_S A H0 H1 locs1 → W p l e R s m args below meth c H1 locs1 cells slots Q (F0 m (pc + 1) ls rest)) : W p l e R s m args below meth c H locs cells slots Q (F0 m pc ls (.int x :: .int (nI i) :: .ref h4 :: rest)) :=
  wz_bast hx hb hK hP hD hS 4 3 rfl rfl hn hi (by decide) hdg (fun y H1 locs1 e1 e2 hP1 hD1 hS1 => kk y H1 locs1 e1 e2 hP1 hD1 hS1)
theorem lX_lineage (hx : p.tables.exec = Jvm.exec) (hb : c.code = cc) (hK : va_K D vwCl (TYX d1 d2 d3 d4 d5) s) (hP : va_P D vwCl (XW h0 h1 h2 h3 h4 h5 d1 d2 d3 d4 d5 T co ow tk N ba li dr) H) {i : Nat} (hi : i < 13) (hdg : decode cc pc = .ok (.saload, 1)) (kk : W p l e R s m args below meth c H locs cells slots Q (F0 m (pc + 1) ls (.int (li i) :: rest))) : W p l e R s m args below meth c H locs cells slots Q (F0 m pc ls (.int (nI i) :: .ref h5 :: rest)) :=
  wz_sald hx hb hK hP 5 4 rfl rfl hi (by decide) hdg kk
theorem sX_lineage (hx : p.tables.exec = Jvm.exec) (hb : c.code = cc) (hK : va_K D vwCl (TYX d1 d2 d3 d4 d5) s) (hP : va_P D vwCl (XW h0 h1 h2 h3 h4 h5 d1 d2 d3 d4 d5 T co ow tk N ba li dr) H) (hD : va_D A (XW h0 h1 h2 h3 h4 h5 d1 d2 d3 d4 d5 T co ow tk N ba li dr)) (hS : va_S A H0 H locs) {i : Nat} {x x2 : Int32} (hn : vp_nar .short x = x2) (hi : i < 13) (hdg : decode cc pc = .ok (.sastore, 1)) (kk : ∀ (y : Nat → Int32) (H1 : Heap) (locs1 : List Loc), y i = x2 → (∀ j, j ≠ i → y j = li j) → va_P D vwCl (XW h0 h1 h2 h3 h4 h5 d1 d2 d3 d4 d5 T co ow tk N ba y dr) H1 → va_D A (XW h0 h1 h2 h3 h4 h5 d1 d2 d3 d4 d5 T co ow tk N ba y dr) → va_S A H0 H1 locs1 → W p l e R s m args below meth c H1 locs1 cells slots Q (F0 m (pc + 1) ls rest)) : W p l e R s m args below meth c H locs cells slots Q (F0 m pc ls (.int x :: .int (nI i) :: .ref h5 :: rest)) :=
  wz_sast hx hb hK hP hD hS 5 4 rfl rfl hn hi (by decide) hdg (fun y H1 locs1 e1 e2 hP1 hD1 hS1 => kk y H1 locs1 e1 e2 hP1 hD1 hS1)
end WX
/-- the cells of a WeaveStoreModel -/
abbrev MW (g0 g1 g2 g3 g4 g5 g6 : Nat) (e1 e2 e3 e4 e5 e6 : ClassId) (N : Nat) (sz : Nat → Int32) (ba : Nat → Int32) (tx : Nat → Int32) (L : Nat) (co : Nat → Int32) (ow : Nat → Int32) (dr : Int32) (fr : Int32) (lt : Nat) (z : Nat) (dl : Nat → Int32) : va_W := [(g0, .inr (1, [.int (nI N), .ref g1, .ref g2, .ref g3, .int (nI L), .ref g4, .ref g5, .int dr, .int fr, .int (nI lt), .int (nI z), .ref g6])), (g1, .inl (e1, 12, .inl sz)), (g2, .inl (e2, 12, .inl ba)), (g3, .inl (e3, 144, .inl tx)), (g4, .inl (e4, 30, .inl co)), (g5, .inl (e5, 30, .inl ow)), (g6, .inl (e6, 12, .inl dl))]
abbrev TYM (e1 e2 e3 e4 e5 e6 : ClassId) : List (ClassId × FieldType) := [(e1, .int), (e2, .int), (e3, .int), (e4, .int), (e5, .int), (e6, .int)]
abbrev MS : Type := Nat × (Nat → Int32) × (Nat → Int32) × (Nat → Int32) × Nat × (Nat → Int32) × (Nat → Int32) × Int32 × Int32 × Nat × Nat × (Nat → Int32)
abbrev MU (g0 g1 g2 g3 g4 g5 g6 : Nat) (e1 e2 e3 e4 e5 e6 : ClassId) (u : MS) : va_W := MW g0 g1 g2 g3 g4 g5 g6 e1 e2 e3 e4 e5 e6 (u.1) (u.2.1) (u.2.2.1) (u.2.2.2.1) (u.2.2.2.2.1) (u.2.2.2.2.2.1) (u.2.2.2.2.2.2.1) (u.2.2.2.2.2.2.2.1) (u.2.2.2.2.2.2.2.2.1) (u.2.2.2.2.2.2.2.2.2.1) (u.2.2.2.2.2.2.2.2.2.2.1) (u.2.2.2.2.2.2.2.2.2.2.2)
section WM
variable {p : Program} {l : Launch} {e : Env} {R : Room} {s : State} {m : MethodId} {args : Array Value} {below : List Frame} {meth : Method} {c : Code} {H : Heap} {locs : List Loc} {cells slots : Nat} {Q : State → Prop}
variable {cc : ByteArray} {pc : Nat} {ls : Array Slot} {rest : List Value} {D : va_G} {tys : List (ClassId × FieldType)} {A : Nat → Prop} {H0 : Heap}
variable {g0 g1 g2 g3 g4 g5 g6 : Nat} {e1 e2 e3 e4 e5 e6 : ClassId} {N : Nat} {sz : Nat → Int32} {ba : Nat → Int32} {tx : Nat → Int32} {L : Nat} {co : Nat → Int32} {ow : Nat → Int32} {dr : Int32} {fr : Int32} {lt : Nat} {z : Nat} {dl : Nat → Int32}
theorem gM_count (hx : p.tables.exec = Jvm.exec) (hb : c.code = cc) (hts : ∀ w ∈ lw_all, w.before args s = true) (hown : s.vm.findClass RX1 = some m.cls) (hK : va_K D vwCl tys s) (hP : va_P D vwCl (MW g0 g1 g2 g3 g4 g5 g6 e1 e2 e3 e4 e5 e6 N sz ba tx L co ow dr fr lt z dl) H) (hdg : decode cc pc = .ok (.getfield 28, 3)) (kk : W p l e R s m args below meth c H locs cells slots Q (F0 m (pc + 3) ls (.int (nI N) :: rest))) : W p l e R s m args below meth c H locs cells slots Q (F0 m pc ls (.ref g0 :: rest)) :=
  va_get (D := D) (ci := 1) (v := .int (nI N)) (C := RX1) (T := TX1) (N := 12) hx hb hts in_X1 hown hK hP 0 rfl rfl 0 (by decide) (hts _ q142) (fun _ h9 => h9) rfl hdg kk
theorem gM_sizes (hx : p.tables.exec = Jvm.exec) (hb : c.code = cc) (hts : ∀ w ∈ lw_all, w.before args s = true) (hown : s.vm.findClass RX1 = some m.cls) (hK : va_K D vwCl tys s) (hP : va_P D vwCl (MW g0 g1 g2 g3 g4 g5 g6 e1 e2 e3 e4 e5 e6 N sz ba tx L co ow dr fr lt z dl) H) (hdg : decode cc pc = .ok (.getfield 7, 3)) (kk : W p l e R s m args below meth c H locs cells slots Q (F0 m (pc + 3) ls (.ref g1 :: rest))) : W p l e R s m args below meth c H locs cells slots Q (F0 m pc ls (.ref g0 :: rest)) :=
  va_get (D := D) (ci := 1) (v := .ref g1) (C := RX1) (T := TX1) (N := 12) hx hb hts in_X1 hown hK hP 0 rfl rfl 1 (by decide) (hts _ q143) (fun _ h9 => h9) rfl hdg kk
theorem gM_bases (hx : p.tables.exec = Jvm.exec) (hb : c.code = cc) (hts : ∀ w ∈ lw_all, w.before args s = true) (hown : s.vm.findClass RX1 = some m.cls) (hK : va_K D vwCl tys s) (hP : va_P D vwCl (MW g0 g1 g2 g3 g4 g5 g6 e1 e2 e3 e4 e5 e6 N sz ba tx L co ow dr fr lt z dl) H) (hdg : decode cc pc = .ok (.getfield 13, 3)) (kk : W p l e R s m args below meth c H locs cells slots Q (F0 m (pc + 3) ls (.ref g2 :: rest))) : W p l e R s m args below meth c H locs cells slots Q (F0 m pc ls (.ref g0 :: rest)) :=
  va_get (D := D) (ci := 1) (v := .ref g2) (C := RX1) (T := TX1) (N := 12) hx hb hts in_X1 hown hK hP 0 rfl rfl 2 (by decide) (hts _ q144) (fun _ h9 => h9) rfl hdg kk
theorem gM_texts (hx : p.tables.exec = Jvm.exec) (hb : c.code = cc) (hts : ∀ w ∈ lw_all, w.before args s = true) (hown : s.vm.findClass RX1 = some m.cls) (hK : va_K D vwCl tys s) (hP : va_P D vwCl (MW g0 g1 g2 g3 g4 g5 g6 e1 e2 e3 e4 e5 e6 N sz ba tx L co ow dr fr lt z dl) H) (hdg : decode cc pc = .ok (.getfield 16, 3)) (kk : W p l e R s m args below meth c H locs cells slots Q (F0 m (pc + 3) ls (.ref g3 :: rest))) : W p l e R s m args below meth c H locs cells slots Q (F0 m pc ls (.ref g0 :: rest)) :=
  va_get (D := D) (ci := 1) (v := .ref g3) (C := RX1) (T := TX1) (N := 12) hx hb hts in_X1 hown hK hP 0 rfl rfl 3 (by decide) (hts _ q145) (fun _ h9 => h9) rfl hdg kk
theorem gM_lines (hx : p.tables.exec = Jvm.exec) (hb : c.code = cc) (hts : ∀ w ∈ lw_all, w.before args s = true) (hown : s.vm.findClass RX1 = some m.cls) (hK : va_K D vwCl tys s) (hP : va_P D vwCl (MW g0 g1 g2 g3 g4 g5 g6 e1 e2 e3 e4 e5 e6 N sz ba tx L co ow dr fr lt z dl) H) (hdg : decode cc pc = .ok (.getfield 47, 3)) (kk : W p l e R s m args below meth c H locs cells slots Q (F0 m (pc + 3) ls (.int (nI L) :: rest))) : W p l e R s m args below meth c H locs cells slots Q (F0 m pc ls (.ref g0 :: rest)) :=
  va_get (D := D) (ci := 1) (v := .int (nI L)) (C := RX1) (T := TX1) (N := 12) hx hb hts in_X1 hown hK hP 0 rfl rfl 4 (by decide) (hts _ q146) (fun _ h9 => h9) rfl hdg kk
theorem gM_contents (hx : p.tables.exec = Jvm.exec) (hb : c.code = cc) (hts : ∀ w ∈ lw_all, w.before args s = true) (hown : s.vm.findClass RX1 = some m.cls) (hK : va_K D vwCl tys s) (hP : va_P D vwCl (MW g0 g1 g2 g3 g4 g5 g6 e1 e2 e3 e4 e5 e6 N sz ba tx L co ow dr fr lt z dl) H) (hdg : decode cc pc = .ok (.getfield 19, 3)) (kk : W p l e R s m args below meth c H locs cells slots Q (F0 m (pc + 3) ls (.ref g4 :: rest))) : W p l e R s m args below meth c H locs cells slots Q (F0 m pc ls (.ref g0 :: rest)) :=
  va_get (D := D) (ci := 1) (v := .ref g4) (C := RX1) (T := TX1) (N := 12) hx hb hts in_X1 hown hK hP 0 rfl rfl 5 (by decide) (hts _ q147) (fun _ h9 => h9) rfl hdg kk
theorem gM_owners (hx : p.tables.exec = Jvm.exec) (hb : c.code = cc) (hts : ∀ w ∈ lw_all, w.before args s = true) (hown : s.vm.findClass RX1 = some m.cls) (hK : va_K D vwCl tys s) (hP : va_P D vwCl (MW g0 g1 g2 g3 g4 g5 g6 e1 e2 e3 e4 e5 e6 N sz ba tx L co ow dr fr lt z dl) H) (hdg : decode cc pc = .ok (.getfield 22, 3)) (kk : W p l e R s m args below meth c H locs cells slots Q (F0 m (pc + 3) ls (.ref g5 :: rest))) : W p l e R s m args below meth c H locs cells slots Q (F0 m pc ls (.ref g0 :: rest)) :=
  va_get (D := D) (ci := 1) (v := .ref g5) (C := RX1) (T := TX1) (N := 12) hx hb hts in_X1 hown hK hP 0 rfl rfl 6 (by decide) (hts _ q148) (fun _ h9 => h9) rfl hdg kk
theorem gM_drafting (hx : p.tables.exec = Jvm.exec) (hb : c.code = cc) (hts : ∀ w ∈ lw_all, w.before args s = true) (hown : s.vm.findClass RX1 = some m.cls) (hK : va_K D vwCl tys s) (hP : va_P D vwCl (MW g0 g1 g2 g3 g4 g5 g6 e1 e2 e3 e4 e5 e6 N sz ba tx L co ow dr fr lt z dl) H) (hdg : decode cc pc = .ok (.getfield 40, 3)) (kk : W p l e R s m args below meth c H locs cells slots Q (F0 m (pc + 3) ls (.int dr :: rest))) : W p l e R s m args below meth c H locs cells slots Q (F0 m pc ls (.ref g0 :: rest)) :=
  va_get (D := D) (ci := 1) (v := .int dr) (C := RX1) (T := TX1) (N := 12) hx hb hts in_X1 hown hK hP 0 rfl rfl 7 (by decide) (hts _ q149) (fun _ h9 => h9) rfl hdg kk
theorem gM_from (hx : p.tables.exec = Jvm.exec) (hb : c.code = cc) (hts : ∀ w ∈ lw_all, w.before args s = true) (hown : s.vm.findClass RX1 = some m.cls) (hK : va_K D vwCl tys s) (hP : va_P D vwCl (MW g0 g1 g2 g3 g4 g5 g6 e1 e2 e3 e4 e5 e6 N sz ba tx L co ow dr fr lt z dl) H) (hdg : decode cc pc = .ok (.getfield 44, 3)) (kk : W p l e R s m args below meth c H locs cells slots Q (F0 m (pc + 3) ls (.int fr :: rest))) : W p l e R s m args below meth c H locs cells slots Q (F0 m pc ls (.ref g0 :: rest)) :=
  va_get (D := D) (ci := 1) (v := .int fr) (C := RX1) (T := TX1) (N := 12) hx hb hts in_X1 hown hK hP 0 rfl rfl 8 (by decide) (hts _ q150) (fun _ h9 => h9) rfl hdg kk
theorem gM_linesThen (hx : p.tables.exec = Jvm.exec) (hb : c.code = cc) (hts : ∀ w ∈ lw_all, w.before args s = true) (hown : s.vm.findClass RX1 = some m.cls) (hK : va_K D vwCl tys s) (hP : va_P D vwCl (MW g0 g1 g2 g3 g4 g5 g6 e1 e2 e3 e4 e5 e6 N sz ba tx L co ow dr fr lt z dl) H) (hdg : decode cc pc = .ok (.getfield 50, 3)) (kk : W p l e R s m args below meth c H locs cells slots Q (F0 m (pc + 3) ls (.int (nI lt) :: rest))) : W p l e R s m args below meth c H locs cells slots Q (F0 m pc ls (.ref g0 :: rest)) :=
  va_get (D := D) (ci := 1) (v := .int (nI lt)) (C := RX1) (T := TX1) (N := 12) hx hb hts in_X1 hown hK hP 0 rfl rfl 9 (by decide) (hts _ q151) (fun _ h9 => h9) rfl hdg kk
theorem gM_size (hx : p.tables.exec = Jvm.exec) (hb : c.code = cc) (hts : ∀ w ∈ lw_all, w.before args s = true) (hown : s.vm.findClass RX1 = some m.cls) (hK : va_K D vwCl tys s) (hP : va_P D vwCl (MW g0 g1 g2 g3 g4 g5 g6 e1 e2 e3 e4 e5 e6 N sz ba tx L co ow dr fr lt z dl) H) (hdg : decode cc pc = .ok (.getfield 53, 3)) (kk : W p l e R s m args below meth c H locs cells slots Q (F0 m (pc + 3) ls (.int (nI z) :: rest))) : W p l e R s m args below meth c H locs cells slots Q (F0 m pc ls (.ref g0 :: rest)) :=
  va_get (D := D) (ci := 1) (v := .int (nI z)) (C := RX1) (T := TX1) (N := 12) hx hb hts in_X1 hown hK hP 0 rfl rfl 10 (by decide) (hts _ q152) (fun _ h9 => h9) rfl hdg kk
theorem gM_draftLines (hx : p.tables.exec = Jvm.exec) (hb : c.code = cc) (hts : ∀ w ∈ lw_all, w.before args s = true) (hown : s.vm.findClass RX1 = some m.cls) (hK : va_K D vwCl tys s) (hP : va_P D vwCl (MW g0 g1 g2 g3 g4 g5 g6 e1 e2 e3 e4 e5 e6 N sz ba tx L co ow dr fr lt z dl) H) (hdg : decode cc pc = .ok (.getfield 25, 3)) (kk : W p l e R s m args below meth c H locs cells slots Q (F0 m (pc + 3) ls (.ref g6 :: rest))) : W p l e R s m args below meth c H locs cells slots Q (F0 m pc ls (.ref g0 :: rest)) :=
  va_get (D := D) (ci := 1) (v := .ref g6) (C := RX1) (T := TX1) (N := 12) hx hb hts in_X1 hown hK hP 0 rfl rfl 11 (by decide) (hts _ q153) (fun _ h9 => h9) rfl hdg kk
theorem uM_count (hx : p.tables.exec = Jvm.exec) (hb : c.code = cc) (hts : ∀ w ∈ lw_all, w.before args s = true) (hown : s.vm.findClass RX1 = some m.cls) (hK : va_K D vwCl tys s) (hP : va_P D vwCl (MW g0 g1 g2 g3 g4 g5 g6 e1 e2 e3 e4 e5 e6 N sz ba tx L co ow dr fr lt z dl) H) (hD : va_D A (MW g0 g1 g2 g3 g4 g5 g6 e1 e2 e3 e4 e5 e6 N sz ba tx L co ow dr fr lt z dl)) (hS : va_S A H0 H locs) {x : Nat} (hdg : decode cc pc = .ok (.putfield 28, 3)) (kk : ∀ (H1 : Heap) (locs1 : List Loc), va_P D vwCl (MW g0 g1 g2 g3 g4 g5 g6 e1 e2 e3 e4 e5 e6 x sz ba tx L co ow dr fr lt z dl) H1 → va_D A (MW g0 g1 g2 g3 g4 g5 g6 e1 e2 e3 e4 e5 e6 x sz ba tx L co ow dr fr lt z dl) → va_S A H0 H1 locs1 → W p l e R s m args below meth c H1 locs1 cells slots Q (F0 m (pc + 3) ls rest)) : W p l e R s m args below meth c H locs cells slots Q (F0 m pc ls (.int (nI x) :: .ref g0 :: rest)) :=
  va_put (D := D) (ci := 1) (v := .int (nI x)) (ty := .int) (C := RX1) (T := TX1) (N := 12) hx hb hts in_X1 tyX1 tyX1_ok nmX1 hown hK hP hD hS 0 rfl rfl 0 (by decide) (hts _ q142) (fun _ h9 => h9) rfl (by decide +kernel) rfl rfl (Nat.le_of_ble_eq_true rfl) hdg (fun H1 locs1 hP1 hD1 hS1 => kk H1 locs1 hP1 hD1 hS1)
theorem uM_lines (hx : p.tables.exec = Jvm.exec) (hb : c.code = cc) (hts : ∀ w ∈ lw_all, w.before args s = true) (hown : s.vm.findClass RX1 = some m.cls) (hK : va_K D vwCl tys s) (hP : va_P D vwCl (MW g0 g1 g2 g3 g4 g5 g6 e1 e2 e3 e4 e5 e6 N sz ba tx L co ow dr fr lt z dl) H) (hD : va_D A (MW g0 g1 g2 g3 g4 g5 g6 e1 e2 e3 e4 e5 e6 N sz ba tx L co ow dr fr lt z dl)) (hS : va_S A H0 H locs) {x : Nat} (hdg : decode cc pc = .ok (.putfield 47, 3)) (kk : ∀ (H1 : Heap) (locs1 : List Loc), va_P D vwCl (MW g0 g1 g2 g3 g4 g5 g6 e1 e2 e3 e4 e5 e6 N sz ba tx x co ow dr fr lt z dl) H1 → va_D A (MW g0 g1 g2 g3 g4 g5 g6 e1 e2 e3 e4 e5 e6 N sz ba tx x co ow dr fr lt z dl) → va_S A H0 H1 locs1 → W p l e R s m args below meth c H1 locs1 cells slots Q (F0 m (pc + 3) ls rest)) : W p l e R s m args below meth c H locs cells slots Q (F0 m pc ls (.int (nI x) :: .ref g0 :: rest)) :=
  va_put (D := D) (ci := 1) (v := .int (nI x)) (ty := .int) (C := RX1) (T := TX1) (N := 12) hx hb hts in_X1 tyX1 tyX1_ok nmX1 hown hK hP hD hS 0 rfl rfl 4 (by decide) (hts _ q146) (fun _ h9 => h9) rfl (by decide +kernel) rfl rfl (Nat.le_of_ble_eq_true rfl) hdg (fun H1 locs1 hP1 hD1 hS1 => kk H1 locs1 hP1 hD1 hS1)
theorem uM_drafting (hx : p.tables.exec = Jvm.exec) (hb : c.code = cc) (hts : ∀ w ∈ lw_all, w.before args s = true) (hown : s.vm.findClass RX1 = some m.cls) (hK : va_K D vwCl tys s) (hP : va_P D vwCl (MW g0 g1 g2 g3 g4 g5 g6 e1 e2 e3 e4 e5 e6 N sz ba tx L co ow dr fr lt z dl) H) (hD : va_D A (MW g0 g1 g2 g3 g4 g5 g6 e1 e2 e3 e4 e5 e6 N sz ba tx L co ow dr fr lt z dl)) (hS : va_S A H0 H locs) {x : Int32} (hn : narrow .boolean (.int x) = .int x) (hfit : fits .boolean (.int x) = true) (hdg : decode cc pc = .ok (.putfield 40, 3)) (kk : ∀ (H1 : Heap) (locs1 : List Loc), va_P D vwCl (MW g0 g1 g2 g3 g4 g5 g6 e1 e2 e3 e4 e5 e6 N sz ba tx L co ow x fr lt z dl) H1 → va_D A (MW g0 g1 g2 g3 g4 g5 g6 e1 e2 e3 e4 e5 e6 N sz ba tx L co ow x fr lt z dl) → va_S A H0 H1 locs1 → W p l e R s m args below meth c H1 locs1 cells slots Q (F0 m (pc + 3) ls rest)) : W p l e R s m args below meth c H locs cells slots Q (F0 m pc ls (.int x :: .ref g0 :: rest)) :=
  va_put (D := D) (ci := 1) (v := .int x) (ty := .boolean) (C := RX1) (T := TX1) (N := 12) hx hb hts in_X1 tyX1 tyX1_ok nmX1 hown hK hP hD hS 0 rfl rfl 7 (by decide) (hts _ q149) (fun _ h9 => h9) rfl (by decide +kernel) hn hfit (Nat.le_of_ble_eq_true rfl) hdg (fun H1 locs1 hP1 hD1 hS1 => kk H1 locs1 hP1 hD1 hS1)
theorem uM_from (hx : p.tables.exec = Jvm.exec) (hb : c.code = cc) (hts : ∀ w ∈ lw_all, w.before args s = true) (hown : s.vm.findClass RX1 = some m.cls) (hK : va_K D vwCl tys s) (hP : va_P D vwCl (MW g0 g1 g2 g3 g4 g5 g6 e1 e2 e3 e4 e5 e6 N sz ba tx L co ow dr fr lt z dl) H) (hD : va_D A (MW g0 g1 g2 g3 g4 g5 g6 e1 e2 e3 e4 e5 e6 N sz ba tx L co ow dr fr lt z dl)) (hS : va_S A H0 H locs) {x : Int32} (hdg : decode cc pc = .ok (.putfield 44, 3)) (kk : ∀ (H1 : Heap) (locs1 : List Loc), va_P D vwCl (MW g0 g1 g2 g3 g4 g5 g6 e1 e2 e3 e4 e5 e6 N sz ba tx L co ow dr x lt z dl) H1 → va_D A (MW g0 g1 g2 g3 g4 g5 g6 e1 e2 e3 e4 e5 e6 N sz ba tx L co ow dr x lt z dl) → va_S A H0 H1 locs1 → W p l e R s m args below meth c H1 locs1 cells slots Q (F0 m (pc + 3) ls rest)) : W p l e R s m args below meth c H locs cells slots Q (F0 m pc ls (.int x :: .ref g0 :: rest)) :=
  va_put (D := D) (ci := 1) (v := .int x) (ty := .int) (C := RX1) (T := TX1) (N := 12) hx hb hts in_X1 tyX1 tyX1_ok nmX1 hown hK hP hD hS 0 rfl rfl 8 (by decide) (hts _ q150) (fun _ h9 => h9) rfl (by decide +kernel) rfl rfl (Nat.le_of_ble_eq_true rfl) hdg (fun H1 locs1 hP1 hD1 hS1 => kk H1 locs1 hP1 hD1 hS1)
theorem uM_linesThen (hx : p.tables.exec = Jvm.exec) (hb : c.code = cc) (hts : ∀ w ∈ lw_all, w.before args s = true) (hown : s.vm.findClass RX1 = some m.cls) (hK : va_K D vwCl tys s) (hP : va_P D vwCl (MW g0 g1 g2 g3 g4 g5 g6 e1 e2 e3 e4 e5 e6 N sz ba tx L co ow dr fr lt z dl) H) (hD : va_D A (MW g0 g1 g2 g3 g4 g5 g6 e1 e2 e3 e4 e5 e6 N sz ba tx L co ow dr fr lt z dl)) (hS : va_S A H0 H locs) {x : Nat} (hdg : decode cc pc = .ok (.putfield 50, 3)) (kk : ∀ (H1 : Heap) (locs1 : List Loc), va_P D vwCl (MW g0 g1 g2 g3 g4 g5 g6 e1 e2 e3 e4 e5 e6 N sz ba tx L co ow dr fr x z dl) H1 → va_D A (MW g0 g1 g2 g3 g4 g5 g6 e1 e2 e3 e4 e5 e6 N sz ba tx L co ow dr fr x z dl) → va_S A H0 H1 locs1 → W p l e R s m args below meth c H1 locs1 cells slots Q (F0 m (pc + 3) ls rest)) : W p l e R s m args below meth c H locs cells slots Q (F0 m pc ls (.int (nI x) :: .ref g0 :: rest)) :=
  va_put (D := D) (ci := 1) (v := .int (nI x)) (ty := .int) (C := RX1) (T := TX1) (N := 12) hx hb hts in_X1 tyX1 tyX1_ok nmX1 hown hK hP hD hS 0 rfl rfl 9 (by decide) (hts _ q151) (fun _ h9 => h9) rfl (by decide +kernel) rfl rfl (Nat.le_of_ble_eq_true rfl) hdg (fun H1 locs1 hP1 hD1 hS1 => kk H1 locs1 hP1 hD1 hS1)
theorem uM_size (hx : p.tables.exec = Jvm.exec) (hb : c.code = cc) (hts : ∀ w ∈ lw_all, w.before args s = true) (hown : s.vm.findClass RX1 = some m.cls) (hK : va_K D vwCl tys s) (hP : va_P D vwCl (MW g0 g1 g2 g3 g4 g5 g6 e1 e2 e3 e4 e5 e6 N sz ba tx L co ow dr fr lt z dl) H) (hD : va_D A (MW g0 g1 g2 g3 g4 g5 g6 e1 e2 e3 e4 e5 e6 N sz ba tx L co ow dr fr lt z dl)) (hS : va_S A H0 H locs) {x : Nat} (hdg : decode cc pc = .ok (.putfield 53, 3)) (kk : ∀ (H1 : Heap) (locs1 : List Loc), va_P D vwCl (MW g0 g1 g2 g3 g4 g5 g6 e1 e2 e3 e4 e5 e6 N sz ba tx L co ow dr fr lt x dl) H1 → va_D A (MW g0 g1 g2 g3 g4 g5 g6 e1 e2 e3 e4 e5 e6 N sz ba tx L co ow dr fr lt x dl) → va_S A H0 H1 locs1 → W p l e R s m args below meth c H1 locs1 cells slots Q (F0 m (pc + 3) ls rest)) : W p l e R s m args below meth c H locs cells slots Q (F0 m pc ls (.int (nI x) :: .ref g0 :: rest)) :=
  va_put (D := D) (ci := 1) (v := .int (nI x)) (ty := .int) (C := RX1) (T := TX1) (N := 12) hx hb hts in_X1 tyX1 tyX1_ok nmX1 hown hK hP hD hS 0 rfl rfl 10 (by decide) (hts _ q152) (fun _ h9 => h9) rfl (by decide +kernel) rfl rfl (Nat.le_of_ble_eq_true rfl) hdg (fun H1 locs1 hP1 hD1 hS1 => kk H1 locs1 hP1 hD1 hS1)
theorem lM_sizes (hx : p.tables.exec = Jvm.exec) (hb : c.code = cc) (hK : va_K D vwCl (TYM e1 e2 e3 e4 e5 e6) s) (hP : va_P D vwCl (MW g0 g1 g2 g3 g4 g5 g6 e1 e2 e3 e4 e5 e6 N sz ba tx L co ow dr fr lt z dl) H) {i : Nat} (hi : i < 12) (hdg : decode cc pc = .ok (.iaload, 1)) (kk : W p l e R s m args below meth c H locs cells slots Q (F0 m (pc + 1) ls (.int (sz i) :: rest))) : W p l e R s m args below meth c H locs cells slots Q (F0 m pc ls (.int (nI i) :: .ref g1 :: rest)) :=
  wz_iald hx hb hK hP 1 0 rfl rfl hi (by decide) hdg kk
theorem sM_sizes (hx : p.tables.exec = Jvm.exec) (hb : c.code = cc) (hK : va_K D vwCl (TYM e1 e2 e3 e4 e5 e6) s) (hP : va_P D vwCl (MW g0 g1 g2 g3 g4 g5 g6 e1 e2 e3 e4 e5 e6 N sz ba tx L co ow dr fr lt z dl) H) (hD : va_D A (MW g0 g1 g2 g3 g4 g5 g6 e1 e2 e3 e4 e5 e6 N sz ba tx L co ow dr fr lt z dl)) (hS : va_S A H0 H locs) {i : Nat} {x : Int32} (hi : i < 12) (hdg : decode cc pc = .ok (.iastore, 1)) (kk : ∀ (y : Nat → Int32) (H1 : Heap) (locs1 : List Loc), y i = x → (∀ j, j ≠ i → y j = sz j) → va_P D vwCl (MW g0 g1 g2 g3 g4 g5 g6 e1 e2 e3 e4 e5 e6 N y ba tx L co ow dr fr lt z dl) H1 → va_D A (MW g0 g1 g2 g3 g4 g5 g6 e1 e2 e3 e4 e5 e6 N y ba tx L co ow dr fr lt z dl) → va_S A H0 H1 locs1 → W p l e R s m args below meth c H1 locs1 cells slots Q (F0 m (pc + 1) ls rest)) : W p l e R s m args below meth c H locs cells slots Q (F0 m pc ls (.int x :: .int (nI i) :: .ref g1 :: rest)) :=
  wz_iast hx hb hK hP hD hS 1 0 rfl rfl hi (by decide) hdg (fun y H1 locs1 e1 e2 hP1 hD1 hS1 => kk y H1 locs1 e1 e2 hP1 hD1 hS1)
theorem lM_bases (hx : p.tables.exec = Jvm.exec) (hb : c.code = cc) (hK : va_K D vwCl (TYM e1 e2 e3 e4 e5 e6) s) (hP : va_P D vwCl (MW g0 g1 g2 g3 g4 g5 g6 e1 e2 e3 e4 e5 e6 N sz ba tx L co ow dr fr lt z dl) H) {i : Nat} (hi : i < 12) (hdg : decode cc pc = .ok (.iaload, 1)) (kk : W p l e R s m args below meth c H locs cells slots Q (F0 m (pc + 1) ls (.int (ba i) :: rest))) : W p l e R s m args below meth c H locs cells slots Q (F0 m pc ls (.int (nI i) :: .ref g2 :: rest)) :=
  wz_iald hx hb hK hP 2 1 rfl rfl hi (by decide) hdg kk
theorem sM_bases (hx : p.tables.exec = Jvm.exec) (hb : c.code = cc) (hK : va_K D vwCl (TYM e1 e2 e3 e4 e5 e6) s) (hP : va_P D vwCl (MW g0 g1 g2 g3 g4 g5 g6 e1 e2 e3 e4 e5 e6 N sz ba tx L co ow dr fr lt z dl) H) (hD : va_D A (MW g0 g1 g2 g3 g4 g5 g6 e1 e2 e3 e4 e5 e6 N sz ba tx L co ow dr fr lt z dl)) (hS : va_S A H0 H locs) {i : Nat} {x : Int32} (hi : i < 12) (hdg : decode cc pc = .ok (.iastore, 1)) (kk : ∀ (y : Nat → Int32) (H1 : Heap) (locs1 : List Loc), y i = x → (∀ j, j ≠ i → y j = ba j) → va_P D vwCl (MW g0 g1 g2 g3 g4 g5 g6 e1 e2 e3 e4 e5 e6 N sz y tx L co ow dr fr lt z dl) H1 → va_D A (MW g0 g1 g2 g3 g4 g5 g6 e1 e2 e3 e4 e5 e6 N sz y tx L co ow dr fr lt z dl) → va_S A H0 H1 locs1 → W p l e R s m args below meth c H1 locs1 cells slots Q (F0 m (pc + 1) ls rest)) : W p l e R s m args below meth c H locs cells slots Q (F0 m pc ls (.int x :: .int (nI i) :: .ref g2 :: rest)) :=
  wz_iast hx hb hK hP hD hS 2 1 rfl rfl hi (by decide) hdg (fun y H1 locs1 e1 e2 hP1 hD1 hS1 => kk y H1 locs1 e1 e2 hP1 hD1 hS1)
theorem lM_texts (hx : p.tables.exec = Jvm.exec) (hb : c.code = cc) (hK : va_K D vwCl (TYM e1 e2 e3 e4 e5 e6) s) (hP : va_P D vwCl (MW g0 g1 g2 g3 g4 g5 g6 e1 e2 e3 e4 e5 e6 N sz ba tx L co ow dr fr lt z dl) H) {i : Nat} (hi : i < 144) (hdg : decode cc pc = .ok (.iaload, 1)) (kk : W p l e R s m args below meth c H locs cells slots Q (F0 m (pc + 1) ls (.int (tx i) :: rest))) : W p l e R s m args below meth c H locs cells slots Q (F0 m pc ls (.int (nI i) :: .ref g3 :: rest)) :=
  wz_iald hx hb hK hP 3 2 rfl rfl hi (by decide) hdg kk
theorem sM_texts (hx : p.tables.exec = Jvm.exec) (hb : c.code = cc) (hK : va_K D vwCl (TYM e1 e2 e3 e4 e5 e6) s) (hP : va_P D vwCl (MW g0 g1 g2 g3 g4 g5 g6 e1 e2 e3 e4 e5 e6 N sz ba tx L co ow dr fr lt z dl) H) (hD : va_D A (MW g0 g1 g2 g3 g4 g5 g6 e1 e2 e3 e4 e5 e6 N sz ba tx L co ow dr fr lt z dl)) (hS : va_S A H0 H locs) {i : Nat} {x : Int32} (hi : i < 144) (hdg : decode cc pc = .ok (.iastore, 1)) (kk : ∀ (y : Nat → Int32) (H1 : Heap) (locs1 : List Loc), y i = x → (∀ j, j ≠ i → y j = tx j) → va_P D vwCl (MW g0 g1 g2 g3 g4 g5 g6 e1 e2 e3 e4 e5 e6 N sz ba y L co ow dr fr lt z dl) H1 → va_D A (MW g0 g1 g2 g3 g4 g5 g6 e1 e2 e3 e4 e5 e6 N sz ba y L co ow dr fr lt z dl) → va_S A H0 H1 locs1 → W p l e R s m args below meth c H1 locs1 cells slots Q (F0 m (pc + 1) ls rest)) : W p l e R s m args below meth c H locs cells slots Q (F0 m pc ls (.int x :: .int (nI i) :: .ref g3 :: rest)) :=
  wz_iast hx hb hK hP hD hS 3 2 rfl rfl hi (by decide) hdg (fun y H1 locs1 e1 e2 hP1 hD1 hS1 => kk y H1 locs1 e1 e2 hP1 hD1 hS1)
theorem lM_contents (hx : p.tables.exec = Jvm.exec) (hb : c.code = cc) (hK : va_K D vwCl (TYM e1 e2 e3 e4 e5 e6) s) (hP : va_P D vwCl (MW g0 g1 g2 g3 g4 g5 g6 e1 e2 e3 e4 e5 e6 N sz ba tx L co ow dr fr lt z dl) H) {i : Nat} (hi : i < 30) (hdg : decode cc pc = .ok (.iaload, 1)) (kk : W p l e R s m args below meth c H locs cells slots Q (F0 m (pc + 1) ls (.int (co i) :: rest))) : W p l e R s m args below meth c H locs cells slots Q (F0 m pc ls (.int (nI i) :: .ref g4 :: rest)) :=
  wz_iald hx hb hK hP 4 3 rfl rfl hi (by decide) hdg kk
theorem sM_contents (hx : p.tables.exec = Jvm.exec) (hb : c.code = cc) (hK : va_K D vwCl (TYM e1 e2 e3 e4 e5 e6) s) (hP : va_P D vwCl (MW g0 g1 g2 g3 g4 g5 g6 e1 e2 e3 e4 e5 e6 N sz ba tx L co ow dr fr lt z dl) H) (hD : va_D A (MW g0 g1 g2 g3 g4 g5 g6 e1 e2 e3 e4 e5 e6 N sz ba tx L co ow dr fr lt z dl)) (hS : va_S A H0 H locs) {i : Nat} {x : Int32} (hi : i < 30) (hdg : decode cc pc = .ok (.iastore, 1)) (kk : ∀ (y : Nat → Int32) (H1 : Heap) (locs1 : List Loc), y i = x → (∀ j, j ≠ i → y j = co j) → va_P D vwCl (MW g0 g1 g2 g3 g4 g5 g6 e1 e2 e3 e4 e5 e6 N sz ba tx L y ow dr fr lt z dl) H1 → va_D A (MW g0 g1 g2 g3 g4 g5 g6 e1 e2 e3 e4 e5 e6 N sz ba tx L y ow dr fr lt z dl) → va_S A H0 H1 locs1 → W p l e R s m args below meth c H1 locs1 cells slots Q (F0 m (pc + 1) ls rest)) : W p l e R s m args below meth c H locs cells slots Q (F0 m pc ls (.int x :: .int (nI i) :: .ref g4 :: rest)) :=
  wz_iast hx hb hK hP hD hS 4 3 rfl rfl hi (by decide) hdg (fun y H1 locs1 e1 e2 hP1 hD1 hS1 => kk y H1 locs1 e1 e2 hP1 hD1 hS1)
theorem lM_owners (hx : p.tables.exec = Jvm.exec) (hb : c.code = cc) (hK : va_K D vwCl (TYM e1 e2 e3 e4 e5 e6) s) (hP : va_P D vwCl (MW g0 g1 g2 g3 g4 g5 g6 e1 e2 e3 e4 e5 e6 N sz ba tx L co ow dr fr lt z dl) H) {i : Nat} (hi : i < 30) (hdg : decode cc pc = .ok (.iaload, 1)) (kk : W p l e R s m args below meth c H locs cells slots Q (F0 m (pc + 1) ls (.int (ow i) :: rest))) : W p l e R s m args below meth c H locs cells slots Q (F0 m pc ls (.int (nI i) :: .ref g5 :: rest)) :=
  wz_iald hx hb hK hP 5 4 rfl rfl hi (by decide) hdg kk
theorem sM_owners (hx : p.tables.exec = Jvm.exec) (hb : c.code = cc) (hK : va_K D vwCl (TYM e1 e2 e3 e4 e5 e6) s) (hP : va_P D vwCl (MW g0 g1 g2 g3 g4 g5 g6 e1 e2 e3 e4 e5 e6 N sz ba tx L co ow dr fr lt z dl) H) (hD : va_D A (MW g0 g1 g2 g3 g4 g5 g6 e1 e2 e3 e4 e5 e6 N sz ba tx L co ow dr fr lt z dl)) (hS : va_S A H0 H locs) {i : Nat} {x : Int32} (hi : i < 30) (hdg : decode cc pc = .ok (.iastore, 1)) (kk : ∀ (y : Nat → Int32) (H1 : Heap) (locs1 : List Loc), y i = x → (∀ j, j ≠ i → y j = ow j) → va_P D vwCl (MW g0 g1 g2 g3 g4 g5 g6 e1 e2 e3 e4 e5 e6 N sz ba tx L co y dr fr lt z dl) H1 → va_D A (MW g0 g1 g2 g3 g4 g5 g6 e1 e2 e3 e4 e5 e6 N sz ba tx L co y dr fr lt z dl) → va_S A H0 H1 locs1 → W p l e R s m args below meth c H1 locs1 cells slots Q (F0 m (pc + 1) ls rest)) : W p l e R s m args below meth c H locs cells slots Q (F0 m pc ls (.int x :: .int (nI i) :: .ref g5 :: rest)) :=
  wz_iast hx hb hK hP hD hS 5 4 rfl rfl hi (by decide) hdg (fun y H1 locs1 e1 e2 hP1 hD1 hS1 => kk y H1 locs1 e1 e2 hP1 hD1 hS1)
theorem lM_draftLines (hx : p.tables.exec = Jvm.exec) (hb : c.code = cc) (hK : va_K D vwCl (TYM e1 e2 e3 e4 e5 e6) s) (hP : va_P D vwCl (MW g0 g1 g2 g3 g4 g5 g6 e1 e2 e3 e4 e5 e6 N sz ba tx L co ow dr fr lt z dl) H) {i : Nat} (hi : i < 12) (hdg : decode cc pc = .ok (.iaload, 1)) (kk : W p l e R s m args below meth c H locs cells slots Q (F0 m (pc + 1) ls (.int (dl i) :: rest))) : W p l e R s m args below meth c H locs cells slots Q (F0 m pc ls (.int (nI i) :: .ref g6 :: rest)) :=
  wz_iald hx hb hK hP 6 5 rfl rfl hi (by decide) hdg kk
theorem sM_draftLines (hx : p.tables.exec = Jvm.exec) (hb : c.code = cc) (hK : va_K D vwCl (TYM e1 e2 e3 e4 e5 e6) s) (hP : va_P D vwCl (MW g0 g1 g2 g3 g4 g5 g6 e1 e2 e3 e4 e5 e6 N sz ba tx L co ow dr fr lt z dl) H) (hD : va_D A (MW g0 g1 g2 g3 g4 g5 g6 e1 e2 e3 e4 e5 e6 N sz ba tx L co ow dr fr lt z dl)) (hS : va_S A H0 H locs) {i : Nat} {x : Int32} (hi : i < 12) (hdg : decode cc pc = .ok (.iastore, 1)) (kk : ∀ (y : Nat → Int32) (H1 : Heap) (locs1 : List Loc), y i = x → (∀ j, j ≠ i → y j = dl j) → va_P D vwCl (MW g0 g1 g2 g3 g4 g5 g6 e1 e2 e3 e4 e5 e6 N sz ba tx L co ow dr fr lt z y) H1 → va_D A (MW g0 g1 g2 g3 g4 g5 g6 e1 e2 e3 e4 e5 e6 N sz ba tx L co ow dr fr lt z y) → va_S A H0 H1 locs1 → W p l e R s m args below meth c H1 locs1 cells slots Q (F0 m (pc + 1) ls rest)) : W p l e R s m args below meth c H locs cells slots Q (F0 m pc ls (.int x :: .int (nI i) :: .ref g6 :: rest)) :=
  wz_iast hx hb hK hP hD hS 6 5 rfl rfl hi (by decide) hdg (fun y H1 locs1 e1 e2 hP1 hD1 hS1 => kk y H1 locs1 e1 e2 hP1 hD1 hS1)
end WM
end
section
/-! WeaveStore: shows, isVersion, lengthOf, find -/
set_option maxHeartbeats 4000000 in
set_option maxRecDepth 100000 in
theorem mX_shows (l : Launch) (D : va_G) (h0 h1 h2 h3 h4 h5 : Nat) (d1 d2 d3 d4 d5 : ClassId) (T : Nat) (co : Nat → Int32) (ow : Nat → Int32) (tk : Nat → Int32) (N : Nat) (ba : Nat → Int32) (li : Nat → Int32) (dr : Int32) (k : Nat) (S : Int32) (hk : k < 30) : MetI l yX0_shows (ws_ yX0_shows cX0_shows 3 (some .boolean)) zr0 D (TYX d1 d2 d3 d4 d5) [.ref h0, .int (nI k), .int S] (XW h0 h1 h2 h3 h4 h5 d1 d2 d3 d4 d5 T co ow tk N ba li dr) (fun r (_ : Unit) => r = bI (sh (ow k) (tk k) S)) (fun _ : Unit => XW h0 h1 h2 h3 h4 h5 d1 d2 d3 d4 d5 T co ow tk N ba li dr) := by
  intro sz
  refine Met.ofW (cc := cX0_shows) (maxL := 3) (ret := some .boolean) (by decide) rfl ?_
  intro p e s m args below meth c s₁ B hml hv
  obtain ⟨rfl, hsz, hP, hK, hD0⟩ := hv
  have hx := B.exec
  have hb := B.bytes
  have hret := B.returns
  have hts := atoms_spec (ws := ws_ yX0_shows cX0_shows 3 (some .boolean)) B.pre
  have hts : ∀ w ∈ lw_all, w.before _ s = true := fun w h => hts w (List.mem_cons_of_mem _ h)
  have hown : s.vm.findClass RX0 = some m.cls := findClass_of_methodNamed B.named
  have hlocks := B.notSynchronized
  subst hsz
  have hD := hD0.self (sz := s.heap.size)
  generalize hAe : va_A (XW h0 h1 h2 h3 h4 h5 d1 d2 d3 d4 d5 T co ow tk N ba li dr) s.heap.size = A at hD ⊢
  have hA : ∀ q : Nat, s.heap.size ≤ q → A q := fun q h => by rw [← hAe]; exact Or.inr h
  have hS : va_S A s.heap s.heap [] := va_S.rf
  have hl := lv_entry ([.ref h0, .int (nI k), .int S]) (n := 3) (Nat.le_of_ble_eq_true rfl)
  rw [lg_entry_eq]
  generalize (lg_sl ([.ref h0, .int (nI k), .int S]) ++ List.replicate (3 - (lg_sl ([.ref h0, .int (nI k), .int S])).length) Slot.unset).toArray = ls at hl ⊢
  have hl : lv_has ls 3 [(0, .ref h0), (1, .int (nI k)), (2, .int S)] := hl
  refine lv_iload_n hx hb dX0_shows_0 rfl (lv_at hl 2 rfl) ?_
  refine lv_aload_n hx hb dX0_shows_1 rfl (lv_at hl 0 rfl) ?_
  refine gX_owners hx hb hts hown hK hP dX0_shows_2 ?_
  refine lv_iload_n hx hb dX0_shows_5 rfl (lv_at hl 1 rfl) ?_
  refine lX_owners hx hb hK hP (i := k) (by omega) dX0_shows_6 ?_
  refine lv_ishr hx hb dX0_shows_7 ?_
  refine lv_iconst (v := nI 1) hx hb dX0_shows_8 (by decide +kernel) ?_
  refine lv_iand hx hb dX0_shows_9 ?_
  refine lv_if_eq (tgt := 28) hx hb dX0_shows_10 (by decide) (fun c_10 => ?_) (fun c_10 => ?_)
  · refine lv_iconst (v := nI 0) hx hb dX0_shows_28 (by decide +kernel) ?_
    exact W.zret (v := nI 0) hx hb hret (rfl) (fun t ht hW => ⟨⟨nI 0, (), rfl, (congrArg bI (sh_f1 c_10)).symm, ⟨by rw [ht]; exact hP, va_K.moved hW.alike hK, hD⟩⟩, hS.F ht⟩) hS.2.2 dX0_shows_29
  · refine lv_aload_n hx hb dX0_shows_13 rfl (lv_at hl 0 rfl) ?_
    refine gX_takenOut hx hb hts hown hK hP dX0_shows_14 ?_
    refine lv_iload_n hx hb dX0_shows_17 rfl (lv_at hl 1 rfl) ?_
    refine lX_takenOut hx hb hK hP (i := k) (by omega) dX0_shows_18 ?_
    refine lv_iload_n hx hb dX0_shows_19 rfl (lv_at hl 2 rfl) ?_
    refine lv_iand hx hb dX0_shows_20 ?_
    refine lv_if_ne (tgt := 28) hx hb dX0_shows_21 (by decide) (fun c_21 => ?_) (fun c_21 => ?_)
    · refine lv_iconst (v := nI 0) hx hb dX0_shows_28 (by decide +kernel) ?_
      exact W.zret (v := nI 0) hx hb hret (rfl) (fun t ht hW => ⟨⟨nI 0, (), rfl, (congrArg bI (sh_f2 c_21)).symm, ⟨by rw [ht]; exact hP, va_K.moved hW.alike hK, hD⟩⟩, hS.F ht⟩) hS.2.2 dX0_shows_29
    · refine lv_iconst (v := nI 1) hx hb dX0_shows_24 (by decide +kernel) ?_
      refine lv_goto (tgt := 29) hx hb dX0_shows_25 (by decide) ?_
      exact W.zret (v := nI 1) hx hb hret (rfl) (fun t ht hW => ⟨⟨nI 1, (), rfl, (congrArg bI (sh_t c_10 c_21)).symm, ⟨by rw [ht]; exact hP, va_K.moved hW.alike hK, hD⟩⟩, hS.F ht⟩) hS.2.2 dX0_shows_29
set_option maxHeartbeats 4000000 in
set_option maxRecDepth 100000 in
theorem mX_isVersion (l : Launch) (D : va_G) (h0 h1 h2 h3 h4 h5 : Nat) (d1 d2 d3 d4 d5 : ClassId) (T : Nat) (co : Nat → Int32) (ow : Nat → Int32) (tk : Nat → Int32) (N : Nat) (ba : Nat → Int32) (li : Nat → Int32) (dr : Int32) (v : Int32) (hN : N ≤ 12) : MetI l yX0_isVersion (ws_ yX0_isVersion cX0_isVersion 2 (some .boolean)) zr0 D (TYX d1 d2 d3 d4 d5) [.ref h0, .int v] (XW h0 h1 h2 h3 h4 h5 d1 d2 d3 d4 d5 T co ow tk N ba li dr) (fun r (_ : Unit) => r = bI (vOk N v)) (fun _ : Unit => XW h0 h1 h2 h3 h4 h5 d1 d2 d3 d4 d5 T co ow tk N ba li dr) := by
  intro sz
  refine Met.ofW (cc := cX0_isVersion) (maxL := 2) (ret := some .boolean) (by decide) rfl ?_
  intro p e s m args below meth c s₁ B hml hv
  obtain ⟨rfl, hsz, hP, hK, hD0⟩ := hv
  have hx := B.exec
  have hb := B.bytes
  have hret := B.returns
  have hts := atoms_spec (ws := ws_ yX0_isVersion cX0_isVersion 2 (some .boolean)) B.pre
  have hts : ∀ w ∈ lw_all, w.before _ s = true := fun w h => hts w (List.mem_cons_of_mem _ h)
  have hown : s.vm.findClass RX0 = some m.cls := findClass_of_methodNamed B.named
  have hlocks := B.notSynchronized
  subst hsz
  have hD := hD0.self (sz := s.heap.size)
  generalize hAe : va_A (XW h0 h1 h2 h3 h4 h5 d1 d2 d3 d4 d5 T co ow tk N ba li dr) s.heap.size = A at hD ⊢
  have hA : ∀ q : Nat, s.heap.size ≤ q → A q := fun q h => by rw [← hAe]; exact Or.inr h
  have hS : va_S A s.heap s.heap [] := va_S.rf
  have hl := lv_entry ([.ref h0, .int v]) (n := 2) (Nat.le_of_ble_eq_true rfl)
  rw [lg_entry_eq]
  generalize (lg_sl ([.ref h0, .int v]) ++ List.replicate (2 - (lg_sl ([.ref h0, .int v])).length) Slot.unset).toArray = ls at hl ⊢
  have hl : lv_has ls 2 [(0, .ref h0), (1, .int v)] := hl
  refine lv_iload_n hx hb dX0_isVersion_0 rfl (lv_at hl 1 rfl) ?_
  refine lv_if_lt (tgt := 16) hx hb dX0_isVersion_1 (by decide) (fun c_1 => ?_) (fun c_1 => ?_)
  · refine lv_iconst (v := nI 0) hx hb dX0_isVersion_16 (by decide +kernel) ?_
    exact W.zret (v := nI 0) hx hb hret (rfl) (fun t ht hW => ⟨⟨nI 0, (), rfl, (congrArg bI (vOk_f1 c_1)).symm, ⟨by rw [ht]; exact hP, va_K.moved hW.alike hK, hD⟩⟩, hS.F ht⟩) hS.2.2 dX0_isVersion_17
  · refine lv_iload_n hx hb dX0_isVersion_4 rfl (lv_at hl 1 rfl) ?_
    refine lv_aload_n hx hb dX0_isVersion_5 rfl (lv_at hl 0 rfl) ?_
    refine gX_count hx hb hts hown hK hP dX0_isVersion_6 ?_
    refine lv_icmp_ge (tgt := 16) hx hb dX0_isVersion_9 (by decide) (fun c_9 => ?_) (fun c_9 => ?_)
    · refine lv_iconst (v := nI 0) hx hb dX0_isVersion_16 (by decide +kernel) ?_
      exact W.zret (v := nI 0) hx hb hret (rfl) (fun t ht hW => ⟨⟨nI 0, (), rfl, (congrArg bI (vOk_f2 c_9)).symm, ⟨by rw [ht]; exact hP, va_K.moved hW.alike hK, hD⟩⟩, hS.F ht⟩) hS.2.2 dX0_isVersion_17
    · refine lv_iconst (v := nI 1) hx hb dX0_isVersion_12 (by decide +kernel) ?_
      refine lv_goto (tgt := 17) hx hb dX0_isVersion_13 (by decide) ?_
      exact W.zret (v := nI 1) hx hb hret (rfl) (fun t ht hW => ⟨⟨nI 1, (), rfl, (congrArg bI (vOk_t c_1 c_9)).symm, ⟨by rw [ht]; exact hP, va_K.moved hW.alike hK, hD⟩⟩, hS.F ht⟩) hS.2.2 dX0_isVersion_17
set_option maxHeartbeats 4000000 in
set_option maxRecDepth 100000 in
theorem lpX_lengthOf {p : Program} {l : Launch} {e : Env} {R : Room} {s : State} {m : MethodId} {args : Array Value} {below : List Frame} {meth : Method} {c : Code} {Q : State → Prop} {D : va_G} {A : Nat → Prop} {h0 h1 h2 h3 h4 h5 : Nat} {d1 d2 d3 d4 d5 : ClassId} {T : Nat} {co : Nat → Int32} {ow : Nat → Int32} {tk : Nat → Int32} {N : Nat} {ba : Nat → Int32} {li : Nat → Int32} {dr : Int32} (hx : p.tables.exec = Jvm.exec) (hb : c.code = cX0_lengthOf) (hml : c.maxLocals = 4) (hown : s.vm.findClass RX0 = some m.cls) (hts : ∀ w ∈ lw_all, w.before args s = true) (hA : ∀ q : Nat, s.heap.size ≤ q → A q) (hK : va_K D vwCl (TYX d1 d2 d3 d4 d5) s) (hR : 1 ≤ R.frames ∧ 30 ≤ R.locals) (S : Int32) (hT : T ≤ 30) (hk : ∀ (H : Heap) (locs : List Loc), va_P D vwCl (XW h0 h1 h2 h3 h4 h5 d1 d2 d3 d4 d5 T co ow tk N ba li dr) H → va_D A (XW h0 h1 h2 h3 h4 h5 d1 d2 d3 d4 d5 T co ow tk N ba li dr) → va_S A s.heap H locs → ∀ ls : Array Slot, lv_has ls 4 [(2, .int (nI (cnt (pv ow tk S) T)))] → W p l e R s m args below meth c H locs 0 0 Q (F0 m 35 ls [])) : ∀ (n i : Nat), i ≤ T → T + 1 ≤ i + n → ∀ (H : Heap) (locs : List Loc), va_P D vwCl (XW h0 h1 h2 h3 h4 h5 d1 d2 d3 d4 d5 T co ow tk N ba li dr) H → va_D A (XW h0 h1 h2 h3 h4 h5 d1 d2 d3 d4 d5 T co ow tk N ba li dr) → va_S A s.heap H locs → ∀ ls : Array Slot, lv_has ls 4 [(0, .ref h0), (1, .int S), (2, .int (nI (cnt (pv ow tk S) i))), (3, .int (nI i))] → W p l e R s m args below meth c H locs 0 0 Q (F0 m 4 ls []) := by
  intro n
  induction n with
  | zero =>
    intro i h1 h2
    exact absurd h2 (by omega)
  | succ n ih =>
    intro i hi hn H locs hP hD hS ls hl
    refine lv_iload_n hx hb dX0_lengthOf_4 rfl (lv_at hl 3 rfl) ?_
    refine lv_aload_n hx hb dX0_lengthOf_5 rfl (lv_at hl 0 rfl) ?_
    refine gX_total hx hb hts hown hK hP dX0_lengthOf_6 ?_
    refine wz_ge (tgt := 35) hx hb (by omega) (by omega) dX0_lengthOf_9 (by decide) (fun c_9 => ?_) (fun c_9 => ?_)
    · rw [show i = T from by omega] at hl
      exact hk _ _ hP hD hS ls (lv_sub hl [2] rfl)
    · refine lv_iload_n hx hb dX0_lengthOf_12 rfl (lv_at hl 2 rfl) ?_
      refine lv_aload_n hx hb dX0_lengthOf_13 rfl (lv_at hl 0 rfl) ?_
      refine lv_iload_n hx hb dX0_lengthOf_14 rfl (lv_at hl 3 rfl) ?_
      refine lv_iload_n hx hb dX0_lengthOf_15 rfl (lv_at hl 1 rfl) ?_
      refine cz_i (As := [.int (nI i), .int S]) (rest := [.int (nI (cnt (pv ow tk S) i))]) ⟨hx, hb, hml, hown, hts⟩ (mX_shows l D h0 h1 h2 h3 h4 h5 d1 d2 d3 d4 d5 T co ow tk N ba li dr i S (by omega)) (cwV 2 hts (lw_V q64 q66 qs3 q11 q67) rfl rfl rfl (by decide +kernel) ⟨Nat.le_trans (Nat.le_of_ble_eq_true rfl) hR.1, Nat.le_trans (Nat.le_of_ble_eq_true rfl) hR.2⟩) hP hK hD hS hA (ci := 0) rfl rfl rfl rfl hl.1 rfl (Nat.le_of_ble_eq_true rfl) dX0_lengthOf_16 ⟨Nat.zero_le _, Nat.zero_le _⟩ (fun r u H locs hr hP hD hS => ?_)
      have hr : r = bI (sh (ow i) (tk i) S) := hr
      subst hr
      refine wz_b_eq (tgt := 26) hx hb dX0_lengthOf_19 (by decide) (fun c_19 => ?_) (fun c_19 => ?_)
      · refine lv_iconst (v := nI 0) hx hb dX0_lengthOf_26 (by decide +kernel) ?_
        refine wz_iadd hx hb dX0_lengthOf_27 ?_
        refine wz_top (x := nI ((cnt (pv ow tk S) i) + 0)) (y := nI (cnt (pv ow tk S) (i + 1))) (congrArg nI (cnt_f (p := pv ow tk S) (n := i) c_19).symm) ?_
        refine lv_istore_n (lv' := [(2, .int (nI (cnt (pv ow tk S) (i + 1)))), (0, .ref h0), (1, .int S), (3, .int (nI i))]) hx hb dX0_lengthOf_28 rfl hl (by decide) rfl (fun ls hl => ?_)
        refine lv_iinc (v := nI (i + 1)) (lv' := [(3, .int (nI (i + 1))), (2, .int (nI (cnt (pv ow tk S) (i + 1)))), (0, .ref h0), (1, .int S)]) hx hb dX0_lengthOf_29 hl (k := 3) rfl (wz_inc1 i) (by decide) rfl (fun ls hl => ?_)
        refine lv_goto (tgt := 4) hx hb dX0_lengthOf_32 (by decide) ?_
        exact ih (i + 1) (by omega) (by omega) _ _ hP hD hS ls (lv_sub hl [2, 3, 1, 0] rfl)
      · refine lv_iconst (v := nI 1) hx hb dX0_lengthOf_22 (by decide +kernel) ?_
        refine lv_goto (tgt := 27) hx hb dX0_lengthOf_23 (by decide) ?_
        refine wz_iadd hx hb dX0_lengthOf_27 ?_
        refine wz_top (x := nI ((cnt (pv ow tk S) i) + 1)) (y := nI (cnt (pv ow tk S) (i + 1))) (congrArg nI (cnt_t (p := pv ow tk S) (n := i) c_19).symm) ?_
        refine lv_istore_n (lv' := [(2, .int (nI (cnt (pv ow tk S) (i + 1)))), (0, .ref h0), (1, .int S), (3, .int (nI i))]) hx hb dX0_lengthOf_28 rfl hl (by decide) rfl (fun ls hl => ?_)
        refine lv_iinc (v := nI (i + 1)) (lv' := [(3, .int (nI (i + 1))), (2, .int (nI (cnt (pv ow tk S) (i + 1)))), (0, .ref h0), (1, .int S)]) hx hb dX0_lengthOf_29 hl (k := 3) rfl (wz_inc1 i) (by decide) rfl (fun ls hl => ?_)
        refine lv_goto (tgt := 4) hx hb dX0_lengthOf_32 (by decide) ?_
        exact ih (i + 1) (by omega) (by omega) _ _ hP hD hS ls (lv_sub hl [2, 3, 1, 0] rfl)
set_option maxHeartbeats 4000000 in
set_option maxRecDepth 100000 in
theorem mX_lengthOf (l : Launch) (D : va_G) (h0 h1 h2 h3 h4 h5 : Nat) (d1 d2 d3 d4 d5 : ClassId) (T : Nat) (co : Nat → Int32) (ow : Nat → Int32) (tk : Nat → Int32) (N : Nat) (ba : Nat → Int32) (li : Nat → Int32) (dr : Int32) (S : Int32) (hT : T ≤ 30) : MetI l yX0_lengthOf (ws_ yX0_lengthOf cX0_lengthOf 4 (some .int)) zr1 D (TYX d1 d2 d3 d4 d5) [.ref h0, .int S] (XW h0 h1 h2 h3 h4 h5 d1 d2 d3 d4 d5 T co ow tk N ba li dr) (fun r (_ : Unit) => r = nI (cnt (pv ow tk S) T)) (fun _ : Unit => XW h0 h1 h2 h3 h4 h5 d1 d2 d3 d4 d5 T co ow tk N ba li dr) := by
  intro sz
  refine Met.ofW (cc := cX0_lengthOf) (maxL := 4) (ret := some .int) (by decide) rfl ?_
  intro p e s m args below meth c s₁ B hml hv
  obtain ⟨rfl, hsz, hP, hK, hD0⟩ := hv
  have hx := B.exec
  have hb := B.bytes
  have hret := B.returns
  have hts := atoms_spec (ws := ws_ yX0_lengthOf cX0_lengthOf 4 (some .int)) B.pre
  have hts : ∀ w ∈ lw_all, w.before _ s = true := fun w h => hts w (List.mem_cons_of_mem _ h)
  have hown : s.vm.findClass RX0 = some m.cls := findClass_of_methodNamed B.named
  have hlocks := B.notSynchronized
  subst hsz
  have hD := hD0.self (sz := s.heap.size)
  generalize hAe : va_A (XW h0 h1 h2 h3 h4 h5 d1 d2 d3 d4 d5 T co ow tk N ba li dr) s.heap.size = A at hD ⊢
  have hA : ∀ q : Nat, s.heap.size ≤ q → A q := fun q h => by rw [← hAe]; exact Or.inr h
  have hS : va_S A s.heap s.heap [] := va_S.rf
  have hl := lv_entry ([.ref h0, .int S]) (n := 4) (Nat.le_of_ble_eq_true rfl)
  rw [lg_entry_eq]
  generalize (lg_sl ([.ref h0, .int S]) ++ List.replicate (4 - (lg_sl ([.ref h0, .int S])).length) Slot.unset).toArray = ls at hl ⊢
  have hl : lv_has ls 4 [(0, .ref h0), (1, .int S)] := hl
  refine lv_iconst (v := nI 0) hx hb dX0_lengthOf_0 (by decide +kernel) ?_
  refine lv_istore_n (lv' := [(2, .int (nI 0)), (0, .ref h0), (1, .int S)]) hx hb dX0_lengthOf_1 rfl hl (by decide) rfl (fun ls hl => ?_)
  refine lv_iconst (v := nI 0) hx hb dX0_lengthOf_2 (by decide +kernel) ?_
  refine lv_istore_n (lv' := [(3, .int (nI 0)), (2, .int (nI 0)), (0, .ref h0), (1, .int S)]) hx hb dX0_lengthOf_3 rfl hl (by decide) rfl (fun ls hl => ?_)
  refine lpX_lengthOf hx hb hml hown hts hA hK ⟨Nat.le_of_ble_eq_true rfl, Nat.le_of_ble_eq_true rfl⟩ S hT (fun H locs hP hD hS ls hl => ?_) (T + 1) 0 (by omega) (by omega) _ _ hP hD hS ls (lv_sub hl [2, 3, 1, 0] rfl)
  refine lv_iload_n hx hb dX0_lengthOf_35 rfl (lv_at hl 0 rfl) ?_
  exact W.iret (v := nI (cnt (pv ow tk S) T)) hx hb hret (fun t ht hW => ⟨⟨nI (cnt (pv ow tk S) T), (), rfl, rfl, ⟨by rw [ht]; exact hP, va_K.moved hW.alike hK, hD⟩⟩, hS.F ht⟩) hS.2.2 dX0_lengthOf_36
set_option maxHeartbeats 4000000 in
set_option maxRecDepth 100000 in
theorem lpX_find {p : Program} {l : Launch} {e : Env} {R : Room} {s : State} {m : MethodId} {args : Array Value} {below : List Frame} {meth : Method} {c : Code} {Q : State → Prop} {D : va_G} {A : Nat → Prop} {h0 h1 h2 h3 h4 h5 : Nat} {d1 d2 d3 d4 d5 : ClassId} {T : Nat} {co : Nat → Int32} {ow : Nat → Int32} {tk : Nat → Int32} {N : Nat} {ba : Nat → Int32} {li : Nat → Int32} {dr : Int32} (hx : p.tables.exec = Jvm.exec) (hb : c.code = cX0_find) (hml : c.maxLocals = 5) (hown : s.vm.findClass RX0 = some m.cls) (hts : ∀ w ∈ lw_all, w.before args s = true) (hA : ∀ q : Nat, s.heap.size ≤ q → A q) (hK : va_K D vwCl (TYX d1 d2 d3 d4 d5) s) (hR : 1 ≤ R.frames ∧ 30 ≤ R.locals) (S : Int32) (j : Nat) (hT : T ≤ 30) (hj : j < 2 ^ 31) (hk1 : ∀ k, k < T → pv ow tk S k = true → cnt (pv ow tk S) k = j → ∀ (H : Heap) (locs : List Loc), va_P D vwCl (XW h0 h1 h2 h3 h4 h5 d1 d2 d3 d4 d5 T co ow tk N ba li dr) H → va_D A (XW h0 h1 h2 h3 h4 h5 d1 d2 d3 d4 d5 T co ow tk N ba li dr) → va_S A s.heap H locs → ∀ ls : Array Slot, lv_has ls 5 [(4, .int (nI k))] → W p l e R s m args below meth c H locs 0 0 Q (F0 m 29 ls [])) (hk2 : cnt (pv ow tk S) T ≤ j → ∀ (H : Heap) (locs : List Loc), va_P D vwCl (XW h0 h1 h2 h3 h4 h5 d1 d2 d3 d4 d5 T co ow tk N ba li dr) H → va_D A (XW h0 h1 h2 h3 h4 h5 d1 d2 d3 d4 d5 T co ow tk N ba li dr) → va_S A s.heap H locs → ∀ ls : Array Slot, lv_has ls 5 [] → W p l e R s m args below meth c H locs 0 0 Q (F0 m 41 ls [])) : ∀ (n i : Nat), i ≤ T → T + 1 ≤ i + n → cnt (pv ow tk S) i ≤ j → ∀ (H : Heap) (locs : List Loc), va_P D vwCl (XW h0 h1 h2 h3 h4 h5 d1 d2 d3 d4 d5 T co ow tk N ba li dr) H → va_D A (XW h0 h1 h2 h3 h4 h5 d1 d2 d3 d4 d5 T co ow tk N ba li dr) → va_S A s.heap H locs → ∀ ls : Array Slot, lv_has ls 5 [(0, .ref h0), (1, .int S), (2, .int (nI j)), (3, .int (nI (cnt (pv ow tk S) i))), (4, .int (nI i))] → W p l e R s m args below meth c H locs 0 0 Q (F0 m 5 ls []) := by
  intro n
  induction n with
  | zero =>
    intro i h1 h2
    exact absurd h2 (by omega)
  | succ n ih =>
    intro i hi hn hc H locs hP hD hS ls hl
    have hci := cnt_le (pv ow tk S) i
    refine lv_iload hx hb dX0_find_5 (lv_at hl 4 rfl) ?_
    refine lv_aload_n hx hb dX0_find_7 rfl (lv_at hl 0 rfl) ?_
    refine gX_total hx hb hts hown hK hP dX0_find_8 ?_
    refine wz_ge (tgt := 41) hx hb (by omega) (by omega) dX0_find_11 (by decide) (fun c_11 => ?_) (fun c_11 => ?_)
    · exact hk2 (by rw [show i = T from by omega] at hc; exact hc) _ _ hP hD hS ls (lv_sub hl [] rfl)
    · refine lv_aload_n hx hb dX0_find_14 rfl (lv_at hl 0 rfl) ?_
      refine lv_iload hx hb dX0_find_15 (lv_at hl 4 rfl) ?_
      refine lv_iload_n hx hb dX0_find_17 rfl (lv_at hl 1 rfl) ?_
      refine cz_i (As := [.int (nI i), .int S]) (rest := []) ⟨hx, hb, hml, hown, hts⟩ (mX_shows l D h0 h1 h2 h3 h4 h5 d1 d2 d3 d4 d5 T co ow tk N ba li dr i S (by omega)) (cwV 2 hts (lw_V q64 q66 qs3 q11 q67) rfl rfl rfl (by decide +kernel) ⟨Nat.le_trans (Nat.le_of_ble_eq_true rfl) hR.1, Nat.le_trans (Nat.le_of_ble_eq_true rfl) hR.2⟩) hP hK hD hS hA (ci := 0) rfl rfl rfl rfl hl.1 rfl (Nat.le_of_ble_eq_true rfl) dX0_find_18 ⟨Nat.zero_le _, Nat.zero_le _⟩ (fun r u H locs hr hP hD hS => ?_)
      have hr : r = bI (sh (ow i) (tk i) S) := hr
      subst hr
      refine wz_b_eq (tgt := 35) hx hb dX0_find_21 (by decide) (fun c_21 => ?_) (fun c_21 => ?_)
      · refine lv_iinc (v := nI (i + 1)) (lv' := [(4, .int (nI (i + 1))), (0, .ref h0), (1, .int S), (2, .int (nI j)), (3, .int (nI (cnt (pv ow tk S) i)))]) hx hb dX0_find_35 hl (k := 4) rfl (wz_inc1 i) (by decide) rfl (fun ls hl => ?_)
        refine lv_goto (tgt := 5) hx hb dX0_find_38 (by decide) ?_
        have hcs := cnt_f (p := pv ow tk S) (n := i) c_21
        exact ih (i + 1) (by omega) (by omega) (by omega) _ _ hP hD hS ls (lv_sub hl [1, 2, 3, 4, 0] (by rw [hcs]; rfl))
      · refine lv_iload_n hx hb dX0_find_24 rfl (lv_at hl 3 rfl) ?_
        refine lv_iload_n hx hb dX0_find_25 rfl (lv_at hl 2 rfl) ?_
        refine wz_ne (tgt := 32) hx hb (by omega) (by omega) dX0_find_26 (by decide) (fun c_26 => ?_) (fun c_26 => ?_)
        · refine lv_iinc (v := nI (cnt (pv ow tk S) i + 1)) (lv' := [(3, .int (nI (cnt (pv ow tk S) i + 1))), (0, .ref h0), (1, .int S), (2, .int (nI j)), (4, .int (nI i))]) hx hb dX0_find_32 hl (k := 3) rfl (wz_inc1 (cnt (pv ow tk S) i)) (by decide) rfl (fun ls hl => ?_)
          refine lv_iinc (v := nI (i + 1)) (lv' := [(4, .int (nI (i + 1))), (3, .int (nI (cnt (pv ow tk S) i + 1))), (0, .ref h0), (1, .int S), (2, .int (nI j))]) hx hb dX0_find_35 hl (k := 4) rfl (wz_inc1 i) (by decide) rfl (fun ls hl => ?_)
          refine lv_goto (tgt := 5) hx hb dX0_find_38 (by decide) ?_
          have hcs := cnt_t (p := pv ow tk S) (n := i) c_21
          exact ih (i + 1) (by omega) (by omega) (by omega) _ _ hP hD hS ls (lv_sub hl [2, 3, 4, 1, 0] (by rw [hcs]; rfl))
        · exact hk1 i c_11 c_21 c_26 _ _ hP hD hS ls (lv_sub hl [4] rfl)
set_option maxHeartbeats 4000000 in
set_option maxRecDepth 100000 in
theorem mX_find (l : Launch) (D : va_G) (h0 h1 h2 h3 h4 h5 : Nat) (d1 d2 d3 d4 d5 : ClassId) (T : Nat) (co : Nat → Int32) (ow : Nat → Int32) (tk : Nat → Int32) (N : Nat) (ba : Nat → Int32) (li : Nat → Int32) (dr : Int32) (S : Int32) (j : Nat) (hT : T ≤ 30) (hj : j < 2 ^ 31) : MetI l yX0_find (ws_ yX0_find cX0_find 5 (some .int)) zr1 D (TYX d1 d2 d3 d4 d5) [.ref h0, .int S, .int (nI j)] (XW h0 h1 h2 h3 h4 h5 d1 d2 d3 d4 d5 T co ow tk N ba li dr) (fun r (_ : Unit) => r = fnd (pv ow tk S) T j) (fun _ : Unit => XW h0 h1 h2 h3 h4 h5 d1 d2 d3 d4 d5 T co ow tk N ba li dr) := by
  intro sz
  refine Met.ofW (cc := cX0_find) (maxL := 5) (ret := some .int) (by decide) rfl ?_
  intro p e s m args below meth c s₁ B hml hv
  obtain ⟨rfl, hsz, hP, hK, hD0⟩ := hv
  have hx := B.exec
  have hb := B.bytes
  have hret := B.returns
  have hts := atoms_spec (ws := ws_ yX0_find cX0_find 5 (some .int)) B.pre
  have hts : ∀ w ∈ lw_all, w.before _ s = true := fun w h => hts w (List.mem_cons_of_mem _ h)
  have hown : s.vm.findClass RX0 = some m.cls := findClass_of_methodNamed B.named
  have hlocks := B.notSynchronized
  subst hsz
  have hD := hD0.self (sz := s.heap.size)
  generalize hAe : va_A (XW h0 h1 h2 h3 h4 h5 d1 d2 d3 d4 d5 T co ow tk N ba li dr) s.heap.size = A at hD ⊢
  have hA : ∀ q : Nat, s.heap.size ≤ q → A q := fun q h => by rw [← hAe]; exact Or.inr h
  have hS : va_S A s.heap s.heap [] := va_S.rf
  have hl := lv_entry ([.ref h0, .int S, .int (nI j)]) (n := 5) (Nat.le_of_ble_eq_true rfl)
  rw [lg_entry_eq]
  generalize (lg_sl ([.ref h0, .int S, .int (nI j)]) ++ List.replicate (5 - (lg_sl ([.ref h0, .int S, .int (nI j)])).length) Slot.unset).toArray = ls at hl ⊢
  have hl : lv_has ls 5 [(0, .ref h0), (1, .int S), (2, .int (nI j))] := hl
  refine lv_iconst (v := nI 0) hx hb dX0_find_0 (by decide +kernel) ?_
  refine lv_istore_n (lv' := [(3, .int (nI 0)), (0, .ref h0), (1, .int S), (2, .int (nI j))]) hx hb dX0_find_1 rfl hl (by decide) rfl (fun ls hl => ?_)
  refine lv_iconst (v := nI 0) hx hb dX0_find_2 (by decide +kernel) ?_
  refine lv_istore (lv' := [(4, .int (nI 0)), (3, .int (nI 0)), (0, .ref h0), (1, .int S), (2, .int (nI j))]) hx hb dX0_find_3 hl (by decide) rfl (fun ls hl => ?_)
  refine lpX_find hx hb hml hown hts hA hK ⟨Nat.le_of_ble_eq_true rfl, Nat.le_of_ble_eq_true rfl⟩ S j hT hj (fun k hk hp he H locs hP hD hS ls hl => ?_) (fun he H locs hP hD hS ls hl => ?_) (T + 1) 0 (by omega) (by omega) (Nat.zero_le j) _ _ hP hD hS ls (lv_sub hl [2, 3, 4, 1, 0] rfl)
  · refine lv_iload hx hb dX0_find_29 (lv_at hl 0 rfl) ?_
    exact W.iret (v := nI k) hx hb hret (fun t ht hW => ⟨⟨nI k, (), rfl, by subst he; exact (fnd_at (p := pv ow tk S) hk hp).symm, ⟨by rw [ht]; exact hP, va_K.moved hW.alike hK, hD⟩⟩, hS.F ht⟩) hS.2.2 dX0_find_31
  · refine lv_iconst (v := -1) hx hb dX0_find_41 (by decide +kernel) ?_
    exact W.iret (v := -1) hx hb hret (fun t ht hW => ⟨⟨-1, (), rfl, (fnd_none he).symm, ⟨by rw [ht]; exact hP, va_K.moved hW.alike hK, hD⟩⟩, hS.F ht⟩) hS.2.2 dX0_find_42
end
section
/-! plain laws that the walks of the changing methods use, and the contracts' words -/
theorem nb_all : ∀ k, k < 128 → (nI k).toInt8.toInt32 = nI k := by decide +kernel
theorem nb_nI {k : Nat} (h : k < 128) : (nI k).toInt8.toInt32 = nI k := nb_all k h
theorem nbv {x : Int32} (h : x.toInt8.toInt32 = x) : vp_nar .byte x = x := (vp_nar_byte _).trans h
theorem nsv {x : Int32} (h : x.toInt16.toInt32 = x) : vp_nar .short x = x := (vp_nar_short _).trans h
theorem x99 {x : Int32} (h1 : ¬ x < 0) (h2 : ¬ nI 99 < x) : ∃ k, k ≤ 99 ∧ x = nI k := nI_of2 (M := nI 99) (n := 99) (by decide +kernel) h1 (Int32.not_lt.mp h2)
theorem x8 {x : Int32} (h1 : ¬ x < 0) (h2 : ¬ nI 99 < x) : x.toInt8.toInt32 = x := by
  obtain ⟨k, hk, rfl⟩ := x99 h1 h2
  exact nb_nI (by omega)
theorem m1_1 : (-1 : Int32) + nI 1 = nI 0 := by decide +kernel
/-- the first n values of f, those from k on moved by one -/
def shP (k n : Nat) (f g : Nat → Int32) : Prop := (∀ j, j ≤ k → g j = f j) ∧ ∀ j, k ≤ j → j < n → g (j + 1) = f j
theorem shP_0 (n : Nat) (f : Nat → Int32) : shP n n f f := ⟨fun _ _ => rfl, fun j h1 h2 => absurd h2 (by omega)⟩
theorem shP_step {k n : Nat} {f g g2 : Nat → Int32} (h : shP (k + 1) n f g) (e1 : g2 (k + 1) = g k) (e2 : ∀ j, j ≠ k + 1 → g2 j = g j) : shP k n f g2 := by
  refine ⟨fun j hj => ?_, fun j h1 h2 => ?_⟩
  · rw [e2 j (by omega)]; exact h.1 j (by omega)
  · by_cases hjk : j = k
    · rw [hjk, e1]; exact h.1 k (by omega)
    · rw [e2 (j + 1) (by omega)]; exact h.2 j (by omega) h2
theorem shP_ins {a n : Nat} {f g g2 : Nat → Int32} {x : Int32} (h : shP a n f g) (e1 : g2 a = x) (e2 : ∀ j, j ≠ a → g2 j = g j) : insP a n f x g2 :=
  ⟨fun k hk => by rw [e2 k (by omega)]; exact h.1 k (by omega), e1, fun k h1 h2 => by rw [e2 (k + 1) (by omega)]; exact h.2 k h1 h2⟩
/-- the kept ones of the first i values moved to the front (as h has them), those from i on as they were -/
def mvP (kp : Nat → Bool) (i n : Nat) (f h g : Nat → Int32) : Prop := (∀ k, k < i → kp k = true → g (cnt kp k) = h k) ∧ ∀ k, i ≤ k → k < n → g k = f k
theorem mvP_0 (kp : Nat → Bool) (n : Nat) (f h : Nat → Int32) : mvP kp 0 n f h f := ⟨fun k hk => absurd hk (Nat.not_lt_zero _), fun _ _ _ => rfl⟩
theorem mvP_skip {kp : Nat → Bool} {i n : Nat} {f h g : Nat → Int32} (hm : mvP kp i n f h g) (hk : kp i = false) : mvP kp (i + 1) n f h g := by
  refine ⟨fun k h1 h2 => ?_, fun k h1 h2 => hm.2 k (by omega) h2⟩
  rcases Nat.lt_or_ge k i with q | q
  · exact hm.1 k q h2
  · obtain rfl : k = i := by omega
    rw [hk] at h2; cases h2
theorem mvP_step {kp : Nat → Bool} {i n : Nat} {f h g g2 : Nat → Int32} (hm : mvP kp i n f h g) (hk : kp i = true) (e1 : g2 (cnt kp i) = h i) (e2 : ∀ j, j ≠ cnt kp i → g2 j = g j) : mvP kp (i + 1) n f h g2 := by
  have hci := cnt_le kp i
  refine ⟨fun k h1 h2 => ?_, fun k h1 h2 => ?_⟩
  · rcases Nat.lt_or_ge k i with q | q
    · have := cnt_lt h2 q
      rw [e2 _ (by omega)]; exact hm.1 k q h2
    · obtain rfl : k = i := by omega
      exact e1
  · rw [e2 k (by omega)]; exact hm.2 k (by omega) h2
theorem keep_t {N : Nat} {ow : Nat → Int32} {i : Nat} (h : ¬ ow i = nI N) : keep N ow i = true := decide_eq_true h
theorem keep_f {N : Nat} {ow : Nat → Int32} {i : Nat} (h : ow i = nI N) : keep N ow i = false := decide_eq_false (fun q => q h)
theorem and_f1 {a b : Bool} (h : a = false) : (a && b) = false := by rw [h]; rfl
theorem and_f2 {a b : Bool} (h : b = false) : (a && b) = false := by rw [h, Bool.and_false]
theorem and_t {a b : Bool} (h : a = true) (h2 : b = true) : (a && b) = true := by rw [h, h2]; rfl
theorem drf_bad {dr what : Int32} {a f : Nat} (h : dr = 0 ∨ what < 0 ∨ nI 2 < what) : drf dr what a f = -1 := by
  unfold drf; rw [if_pos h]
theorem drf_0 {dr what : Int32} {a f : Nat} (h : ¬ (dr = 0 ∨ what < 0 ∨ nI 2 < what)) (h0 : what = 0) : drf dr what a f = nI a := by
  unfold drf; rw [if_neg h, if_pos h0]
theorem drf_1 {dr what : Int32} {a f : Nat} (h : ¬ (dr = 0 ∨ what < 0 ∨ nI 2 < what)) (h0 : ¬ what = 0) (h1 : what = nI 1) : drf dr what a f = nI a - nI f := by
  unfold drf; rw [if_neg h, if_neg h0, if_pos h1]
theorem drf_2 {dr what : Int32} {a f : Nat} (h : ¬ (dr = 0 ∨ what < 0 ∨ nI 2 < what)) (h0 : ¬ what = 0) (h1 : ¬ what = nI 1) : drf dr what a f = nI f := by
  unfold drf; rw [if_neg h, if_neg h0, if_neg h1]
/-- an answer about a version: d when there is none -/
def verP (N : Nat) (v r d : Int32) (F : Nat → Int32) : Prop := (vOk N v = false ∧ r = d) ∨ ∃ j, j < N ∧ v = nI j ∧ r = F j
def ver2P (N : Nat) (v w r : Int32) (F : Nat → Nat → Int32) : Prop := ((vOk N v = false ∨ vOk N w = false) ∧ r = -1) ∨ ∃ j j2, j < N ∧ v = nI j ∧ j2 < N ∧ w = nI j2 ∧ r = F j j2
/-- an answer about the line at a place of a version, by its place in the weave -/
def xatP (N T : Nat) (P : Nat → Nat → Bool) (v i r d : Int32) (F : Nat → Int32) : Prop := (noneAt N (fun j => cnt (P j) T) v i ∧ r = d) ∨ ∃ j k, j < N ∧ v = nI j ∧ k < T ∧ P j k = true ∧ i = nI (cnt (P j) k) ∧ r = F k
/-- an answer about the line at a place of a version, by its number -/
def matP (N : Nat) (Z : Nat → Nat) (tx : Nat → Int32) (v i r d : Int32) (G : Int32 → Int32) : Prop := (noneAt N Z v i ∧ r = d) ∨ ∃ j ii, j < N ∧ v = nI j ∧ ii < Z j ∧ i = nI ii ∧ r = G (tx (12 * j + ii))
def xplF (N : Nat) (P : Nat → Nat → Bool) (w : Int32) (k : Nat) : Int32 := if vOk N w = true then (if P w.toNatClampNeg k = true then nI (cnt (P w.toNatClampNeg) k) else -1) else -1
theorem xplF_f1 {N : Nat} {P : Nat → Nat → Bool} {w : Int32} {k : Nat} (h : vOk N w = false) : xplF N P w k = -1 := by
  unfold xplF; rw [if_neg (by rw [h]; decide)]
theorem xplF_f2 {N : Nat} {P : Nat → Nat → Bool} {j k : Nat} (hN : N ≤ 12) (hj : j < N) (h : P j k = false) : xplF N P (nI j) k = -1 := by
  unfold xplF; rw [if_pos (vOk_nI (by omega) hj), nI_clamp (by omega), if_neg (by rw [h]; decide)]
theorem xplF_t {N : Nat} {P : Nat → Nat → Bool} {j k : Nat} (hN : N ≤ 12) (hj : j < N) (h : P j k = true) : xplF N P (nI j) k = nI (cnt (P j) k) := by
  unfold xplF; rw [if_pos (vOk_nI (by omega) hj), nI_clamp (by omega), if_pos h]
def xOpenP (T : Nat) (co ow tk : Nat → Int32) (N : Nat) (ba li : Nat → Int32) (dr v r : Int32) (T' : Nat) (co' ow' tk' ba' li' : Nat → Int32) (dr' : Int32) : Prop :=
  (vOk N v = false ∧ r = -1 ∧ T' = T ∧ co' = co ∧ ow' = ow ∧ tk' = tk ∧ ba' = ba ∧ li' = li ∧ dr' = dr) ∨
  ∃ j, j < N ∧ v = nI j ∧ ((dr = 0 ∧ T' = T ∧ co' = co ∧ ow' = ow ∧ tk' = tk) ∨ (¬ dr = 0 ∧ swP N T co ow tk T' co' ow' tk')) ∧ (ba' N = nI j ∧ ∀ k, k ≠ N → ba' k = ba k) ∧ (li' N = li j ||| cbit N ∧ ∀ k, k ≠ N → li' k = li k) ∧ dr' = nI 1 ∧ r = nI (cnt (pv ow' tk' (li' N)) T')
def xPutP (T : Nat) (co ow tk : Nat → Int32) (N : Nat) (li : Nat → Int32) (dr i x r : Int32) (T' : Nat) (co' ow' tk' : Nat → Int32) : Prop :=
  (putBad dr x i (cnt (pv ow tk (li N)) T) ∧ r = -1 ∧ T' = T ∧ co' = co ∧ ow' = ow ∧ tk' = tk) ∨
  (¬ putBad dr x i (cnt (pv ow tk (li N)) T) ∧ (12 ≤ cnt (pv ow tk (li N)) T ∨ 30 ≤ T) ∧ r = -2 ∧ T' = T ∧ co' = co ∧ ow' = ow ∧ tk' = tk) ∨
  (¬ putBad dr x i (cnt (pv ow tk (li N)) T) ∧ cnt (pv ow tk (li N)) T < 12 ∧ T < 30 ∧ r = nI (cnt (pv ow tk (li N)) T + 1) ∧ T' = T + 1 ∧ ∃ a ii, a ≤ T ∧ i = nI ii ∧ ii ≤ cnt (pv ow tk (li N)) T ∧ cnt (pv ow tk (li N)) a = ii ∧ insP a T co x co' ∧ insP a T ow (nI N) ow' ∧ insP a T tk (nI 0) tk')
def xCutP (T : Nat) (co ow tk : Nat → Int32) (N : Nat) (li : Nat → Int32) (dr i r : Int32) (tk' : Nat → Int32) : Prop :=
  (cutBad dr i (cnt (pv ow tk (li N)) T) ∧ r = -1 ∧ tk' = tk) ∨
  (¬ cutBad dr i (cnt (pv ow tk (li N)) T) ∧ ∃ k, k < T ∧ pv ow tk (li N) k = true ∧ i = nI (cnt (pv ow tk (li N)) k) ∧ r = co k ∧ tk' k = tk k ||| cbit N ∧ ∀ j, j ≠ k → tk' j = tk j)
def xCloseP (N : Nat) (dr r : Int32) (N' : Nat) (dr' : Int32) : Prop := (dr = 0 ∧ r = -1 ∧ N' = N ∧ dr' = dr) ∨ (¬ dr = 0 ∧ 12 ≤ N ∧ r = -2 ∧ N' = N ∧ dr' = dr) ∨ (¬ dr = 0 ∧ N < 12 ∧ r = nI N ∧ N' = N + 1 ∧ dr' = nI 0)
def xDiscP (T : Nat) (co ow tk : Nat → Int32) (N : Nat) (dr r : Int32) (T' : Nat) (co' ow' tk' : Nat → Int32) (dr' : Int32) : Prop := (dr = 0 ∧ r = nI 0 ∧ T' = T ∧ co' = co ∧ ow' = ow ∧ tk' = tk ∧ dr' = dr) ∨ (¬ dr = 0 ∧ r = nI 1 ∧ swP N T co ow tk T' co' ow' tk' ∧ dr' = nI 0)
theorem not_putBad {dr x i : Int32} {n : Nat} (h1 : ¬ dr = 0) (h2 : ¬ x < 0) (h3 : ¬ nI 99 < x) (h4 : ¬ i < 0) (h5 : ¬ nI n < i) : ¬ putBad dr x i n := by
  rintro (h | h | h | h | h)
  · exact h1 h
  · exact h2 h
  · exact h3 h
  · exact h4 h
  · exact h5 h
theorem not_cutBad {dr i : Int32} {n : Nat} (h1 : ¬ dr = 0) (h4 : ¬ i < 0) (h5 : ¬ nI n ≤ i) : ¬ cutBad dr i n := by
  rintro (h | h | h)
  · exact h1 h
  · exact h4 h
  · exact h5 h
theorem not_drBad {dr w : Int32} (h1 : ¬ dr = 0) (h2 : ¬ w < 0) (h3 : w ≤ nI 2) : ¬ (dr = 0 ∨ w < 0 ∨ nI 2 < w) := by
  rintro (h | h | h)
  · exact h1 h
  · exact h2 h
  · exact absurd h3 (Int32.not_le.mpr h)
end
section
/-! WeaveStore: insert, sweep, open, put, cut, close, discard, versions -/
set_option maxHeartbeats 4000000 in
set_option maxRecDepth 100000 in
theorem lpX_insert {p : Program} {l : Launch} {e : Env} {R : Room} {s : State} {m : MethodId} {args : Array Value} {below : List Frame} {meth : Method} {c : Code} {Q : State → Prop} {D : va_G} {A : Nat → Prop} {h0 h1 h2 h3 h4 h5 : Nat} {d1 d2 d3 d4 d5 : ClassId} {T : Nat} {co : Nat → Int32} {ow : Nat → Int32} {tk : Nat → Int32} {N : Nat} {ba : Nat → Int32} {li : Nat → Int32} {dr : Int32} (hx : p.tables.exec = Jvm.exec) (hb : c.code = cX0_insert) (hml : c.maxLocals = 4) (hown : s.vm.findClass RX0 = some m.cls) (hts : ∀ w ∈ lw_all, w.before args s = true) (hA : ∀ q : Nat, s.heap.size ≤ q → A q) (hK : va_K D vwCl (TYX d1 d2 d3 d4 d5) s) (hR : 0 ≤ R.frames ∧ 0 ≤ R.locals) (a : Nat) (x : Int32) (hT : T < 30) (hco : ∀ k, k < T → (co k).toInt8.toInt32 = co k) (how : ∀ k, k < T → (ow k).toInt8.toInt32 = ow k) (htk : ∀ k, k < T → (tk k).toInt16.toInt32 = tk k) (hk : ∀ (co1 ow1 tk1 : Nat → Int32), shP a T co co1 → shP a T ow ow1 → shP a T tk tk1 → ∀ (H : Heap) (locs : List Loc), va_P D vwCl (XW h0 h1 h2 h3 h4 h5 d1 d2 d3 d4 d5 T co1 ow1 tk1 N ba li dr) H → va_D A (XW h0 h1 h2 h3 h4 h5 d1 d2 d3 d4 d5 T co1 ow1 tk1 N ba li dr) → va_S A s.heap H locs → ∀ ls : Array Slot, lv_has ls 4 [(0, .ref h0), (1, .int (nI a)), (2, .int x)] → W p l e R s m args below meth c H locs 0 0 Q (F0 m 58 ls [])) : ∀ (n k : Nat) (co1 ow1 tk1 : Nat → Int32), a ≤ k → k ≤ T → k + 1 ≤ a + n → shP k T co co1 → shP k T ow ow1 → shP k T tk tk1 → ∀ (H : Heap) (locs : List Loc), va_P D vwCl (XW h0 h1 h2 h3 h4 h5 d1 d2 d3 d4 d5 T co1 ow1 tk1 N ba li dr) H → va_D A (XW h0 h1 h2 h3 h4 h5 d1 d2 d3 d4 d5 T co1 ow1 tk1 N ba li dr) → va_S A s.heap H locs → ∀ ls : Array Slot, lv_has ls 4 [(0, .ref h0), (1, .int (nI a)), (2, .int x), (3, .int (nI k))] → W p l e R s m args below meth c H locs 0 0 Q (F0 m 5 ls []) := by
  intro n
  induction n with
  | zero =>
    intro k co1 ow1 tk1 h0 h1 h2
    exact absurd h2 (by omega)
  | succ n ih =>
    intro k co1 ow1 tk1 ha hkT hn hs1 hs2 hs3 H locs hP hD hS ls hl
    refine lv_iload_n hx hb dX0_insert_5 rfl (lv_at hl 3 rfl) ?_
    refine lv_iload_n hx hb dX0_insert_6 rfl (lv_at hl 1 rfl) ?_
    refine wz_le (tgt := 58) hx hb (by omega) (by omega) dX0_insert_7 (by decide) (fun c_7 => ?_) (fun c_7 => ?_)
    · obtain rfl : a = k := by omega
      exact hk co1 ow1 tk1 hs1 hs2 hs3 _ _ hP hD hS ls (lv_sub hl [0, 1, 2] rfl)
    · obtain ⟨k2, rfl⟩ : ∃ k2, k = k2 + 1 := ⟨k - 1, by omega⟩
      refine lv_aload_n hx hb dX0_insert_10 rfl (lv_at hl 0 rfl) ?_
      refine gX_contents hx hb hts hown hK hP dX0_insert_11 ?_
      refine lv_iload_n hx hb dX0_insert_14 rfl (lv_at hl 3 rfl) ?_
      refine lv_aload_n hx hb dX0_insert_15 rfl (lv_at hl 0 rfl) ?_
      refine gX_contents hx hb hts hown hK hP dX0_insert_16 ?_
      refine lv_iload_n hx hb dX0_insert_19 rfl (lv_at hl 3 rfl) ?_
      refine lv_iconst (v := nI 1) hx hb dX0_insert_20 (by decide +kernel) ?_
      refine wz_isub hx hb k2 (by omega) dX0_insert_21 ?_
      refine lX_contents hx hb hK hP (i := k2) (by omega) dX0_insert_22 ?_
      refine sX_contents hx hb hK hP hD hS (i := k2 + 1) (x2 := co1 k2) (by rw [hs1.1 k2 (by omega)]; exact nbv (hco k2 (by omega))) (by omega) dX0_insert_23 (fun co_1 H locs co_1a co_1b hP hD hS => ?_)
      refine lv_aload_n hx hb dX0_insert_24 rfl (lv_at hl 0 rfl) ?_
      refine gX_owners hx hb hts hown hK hP dX0_insert_25 ?_
      refine lv_iload_n hx hb dX0_insert_28 rfl (lv_at hl 3 rfl) ?_
      refine lv_aload_n hx hb dX0_insert_29 rfl (lv_at hl 0 rfl) ?_
      refine gX_owners hx hb hts hown hK hP dX0_insert_30 ?_
      refine lv_iload_n hx hb dX0_insert_33 rfl (lv_at hl 3 rfl) ?_
      refine lv_iconst (v := nI 1) hx hb dX0_insert_34 (by decide +kernel) ?_
      refine wz_isub hx hb k2 (by omega) dX0_insert_35 ?_
      refine lX_owners hx hb hK hP (i := k2) (by omega) dX0_insert_36 ?_
      refine sX_owners hx hb hK hP hD hS (i := k2 + 1) (x2 := ow1 k2) (by rw [hs2.1 k2 (by omega)]; exact nbv (how k2 (by omega))) (by omega) dX0_insert_37 (fun ow_2 H locs ow_2a ow_2b hP hD hS => ?_)
      refine lv_aload_n hx hb dX0_insert_38 rfl (lv_at hl 0 rfl) ?_
      refine gX_takenOut hx hb hts hown hK hP dX0_insert_39 ?_
      refine lv_iload_n hx hb dX0_insert_42 rfl (lv_at hl 3 rfl) ?_
      refine lv_aload_n hx hb dX0_insert_43 rfl (lv_at hl 0 rfl) ?_
      refine gX_takenOut hx hb hts hown hK hP dX0_insert_44 ?_
      refine lv_iload_n hx hb dX0_insert_47 rfl (lv_at hl 3 rfl) ?_
      refine lv_iconst (v := nI 1) hx hb dX0_insert_48 (by decide +kernel) ?_
      refine wz_isub hx hb k2 (by omega) dX0_insert_49 ?_
      refine lX_takenOut hx hb hK hP (i := k2) (by omega) dX0_insert_50 ?_
      refine sX_takenOut hx hb hK hP hD hS (i := k2 + 1) (x2 := tk1 k2) (by rw [hs3.1 k2 (by omega)]; exact nsv (htk k2 (by omega))) (by omega) dX0_insert_51 (fun tk_3 H locs tk_3a tk_3b hP hD hS => ?_)
      refine lv_iinc (v := nI k2) (lv' := [(3, .int (nI k2)), (0, .ref h0), (1, .int (nI a)), (2, .int x)]) hx hb dX0_insert_52 hl (k := 3) rfl (wz_dec1 k2) (by decide) rfl (fun ls hl => ?_)
      refine lv_goto (tgt := 5) hx hb dX0_insert_55 (by decide) ?_
      exact ih k2 co_1 ow_2 tk_3 (by omega) (by omega) (by omega) (shP_step hs1 co_1a co_1b) (shP_step hs2 ow_2a ow_2b) (shP_step hs3 tk_3a tk_3b) _ _ hP hD hS ls (lv_sub hl [1, 2, 3, 0] rfl)
set_option maxHeartbeats 4000000 in
set_option maxRecDepth 100000 in
theorem mX_insert (l : Launch) (D : va_G) (h0 h1 h2 h3 h4 h5 : Nat) (d1 d2 d3 d4 d5 : ClassId) (T : Nat) (co : Nat → Int32) (ow : Nat → Int32) (tk : Nat → Int32) (N : Nat) (ba : Nat → Int32) (li : Nat → Int32) (dr : Int32) (a : Nat) (x : Int32) (hT : T < 30) (hN : N ≤ 12) (haT : a ≤ T) (hx8 : x.toInt8.toInt32 = x) (hco : ∀ k, k < T → (co k).toInt8.toInt32 = co k) (how : ∀ k, k < T → (ow k).toInt8.toInt32 = ow k) (htk : ∀ k, k < T → (tk k).toInt16.toInt32 = tk k) : MetV l yX0_insert (ws_ yX0_insert cX0_insert 4 (none)) zr0 D (TYX d1 d2 d3 d4 d5) [.ref h0, .int (nI a), .int x] (XW h0 h1 h2 h3 h4 h5 d1 d2 d3 d4 d5 T co ow tk N ba li dr) (fun u : (Nat → Int32) × (Nat → Int32) × (Nat → Int32) => insP a T co x u.1 ∧ insP a T ow (nI N) u.2.1 ∧ insP a T tk (nI 0) u.2.2) (fun u : (Nat → Int32) × (Nat → Int32) × (Nat → Int32) => XW h0 h1 h2 h3 h4 h5 d1 d2 d3 d4 d5 (T + 1) u.1 u.2.1 u.2.2 N ba li dr) := by
  intro sz
  refine Met.ofW (cc := cX0_insert) (maxL := 4) (ret := none) (by decide) rfl ?_
  intro p e s m args below meth c s₁ B hml hv
  obtain ⟨rfl, hsz, hP, hK, hD0⟩ := hv
  have hx := B.exec
  have hb := B.bytes
  have hret := B.returns
  have hts := atoms_spec (ws := ws_ yX0_insert cX0_insert 4 (none)) B.pre
  have hts : ∀ w ∈ lw_all, w.before _ s = true := fun w h => hts w (List.mem_cons_of_mem _ h)
  have hown : s.vm.findClass RX0 = some m.cls := findClass_of_methodNamed B.named
  have hlocks := B.notSynchronized
  subst hsz
  have hD := hD0.self (sz := s.heap.size)
  generalize hAe : va_A (XW h0 h1 h2 h3 h4 h5 d1 d2 d3 d4 d5 T co ow tk N ba li dr) s.heap.size = A at hD ⊢
  have hA : ∀ q : Nat, s.heap.size ≤ q → A q := fun q h => by rw [← hAe]; exact Or.inr h
  have hS : va_S A s.heap s.heap [] := va_S.rf
  have hl := lv_entry ([.ref h0, .int (nI a), .int x]) (n := 4) (Nat.le_of_ble_eq_true rfl)
  rw [lg_entry_eq]
  generalize (lg_sl ([.ref h0, .int (nI a), .int x]) ++ List.replicate (4 - (lg_sl ([.ref h0, .int (nI a), .int x])).length) Slot.unset).toArray = ls at hl ⊢
  have hl : lv_has ls 4 [(0, .ref h0), (1, .int (nI a)), (2, .int x)] := hl
  refine lv_aload_n hx hb dX0_insert_0 rfl (lv_at hl 0 rfl) ?_
  refine gX_total hx hb hts hown hK hP dX0_insert_1 ?_
  refine lv_istore_n (lv' := [(3, .int (nI T)), (0, .ref h0), (1, .int (nI a)), (2, .int x)]) hx hb dX0_insert_4 rfl hl (by decide) rfl (fun ls hl => ?_)
  refine lpX_insert hx hb hml hown hts hA hK ⟨Nat.le_of_ble_eq_true rfl, Nat.le_of_ble_eq_true rfl⟩ a x hT hco how htk (fun co1 ow1 tk1 hs1 hs2 hs3 H locs hP hD hS ls hl => ?_) (T + 1 - a) T co ow tk haT (Nat.le_refl T) (by omega) (shP_0 _ _) (shP_0 _ _) (shP_0 _ _) _ _ hP hD hS ls (lv_sub hl [1, 2, 3, 0] rfl)
  refine lv_aload_n hx hb dX0_insert_58 rfl (lv_at hl 0 rfl) ?_
  refine gX_contents hx hb hts hown hK hP dX0_insert_59 ?_
  refine lv_iload_n hx hb dX0_insert_62 rfl (lv_at hl 1 rfl) ?_
  refine lv_iload_n hx hb dX0_insert_63 rfl (lv_at hl 2 rfl) ?_
  refine lv_i2b (v := x) hx hb dX0_insert_64 (hx8) ?_
  refine sX_contents hx hb hK hP hD hS (i := a) (x2 := x) (nbv hx8) (by omega) dX0_insert_65 (fun co_1 H locs co_1a co_1b hP hD hS => ?_)
  refine lv_aload_n hx hb dX0_insert_66 rfl (lv_at hl 0 rfl) ?_
  refine gX_owners hx hb hts hown hK hP dX0_insert_67 ?_
  refine lv_iload_n hx hb dX0_insert_70 rfl (lv_at hl 1 rfl) ?_
  refine lv_aload_n hx hb dX0_insert_71 rfl (lv_at hl 0 rfl) ?_
  refine gX_count hx hb hts hown hK hP dX0_insert_72 ?_
  refine lv_i2b (v := nI N) hx hb dX0_insert_75 (nb_nI (by omega)) ?_
  refine sX_owners hx hb hK hP hD hS (i := a) (x2 := nI N) (nbv (nb_nI (by omega))) (by omega) dX0_insert_76 (fun ow_2 H locs ow_2a ow_2b hP hD hS => ?_)
  refine lv_aload_n hx hb dX0_insert_77 rfl (lv_at hl 0 rfl) ?_
  refine gX_takenOut hx hb hts hown hK hP dX0_insert_78 ?_
  refine lv_iload_n hx hb dX0_insert_81 rfl (lv_at hl 1 rfl) ?_
  refine lv_iconst (v := nI 0) hx hb dX0_insert_82 (by decide +kernel) ?_
  refine sX_takenOut hx hb hK hP hD hS (i := a) (x2 := nI 0) (nsv (by decide +kernel)) (by omega) dX0_insert_83 (fun tk_3 H locs tk_3a tk_3b hP hD hS => ?_)
  refine lv_aload_n hx hb dX0_insert_84 rfl (lv_at hl 0 rfl) ?_
  refine lv_dup hx hb dX0_insert_85 rfl ?_
  refine gX_total hx hb hts hown hK hP dX0_insert_86 ?_
  refine lv_iconst (v := nI 1) hx hb dX0_insert_89 (by decide +kernel) ?_
  refine wz_iadd hx hb dX0_insert_90 ?_
  refine uX_total hx hb hts hown hK hP hD hS dX0_insert_91 (fun H locs hP hD hS => ?_)
  exact W.vret hx hb hret (fun t ht hW => ⟨⟨(co_1, ow_2, tk_3), rfl, ⟨shP_ins hs1 co_1a co_1b, shP_ins hs2 ow_2a ow_2b, shP_ins hs3 tk_3a tk_3b⟩, ⟨by rw [ht]; exact hP, va_K.moved hW.alike hK, hD⟩⟩, hS.F ht⟩) hS.2.2 dX0_insert_94
set_option maxHeartbeats 4000000 in
set_option maxRecDepth 100000 in
theorem lpX_sweep {p : Program} {l : Launch} {e : Env} {R : Room} {s : State} {m : MethodId} {args : Array Value} {below : List Frame} {meth : Method} {c : Code} {Q : State → Prop} {D : va_G} {A : Nat → Prop} {h0 h1 h2 h3 h4 h5 : Nat} {d1 d2 d3 d4 d5 : ClassId} {T : Nat} {co : Nat → Int32} {ow : Nat → Int32} {tk : Nat → Int32} {N : Nat} {ba : Nat → Int32} {li : Nat → Int32} {dr : Int32} (hx : p.tables.exec = Jvm.exec) (hb : c.code = cX0_sweep) (hml : c.maxLocals = 3) (hown : s.vm.findClass RX0 = some m.cls) (hts : ∀ w ∈ lw_all, w.before args s = true) (hA : ∀ q : Nat, s.heap.size ≤ q → A q) (hK : va_K D vwCl (TYX d1 d2 d3 d4 d5) s) (hR : 0 ≤ R.frames ∧ 0 ≤ R.locals) (hT : T ≤ 30) (hco : ∀ k, k < T → (co k).toInt8.toInt32 = co k) (how : ∀ k, k < T → (ow k).toInt8.toInt32 = ow k) (hcl : ∀ k, k < T → (clr N (tk k)).toInt16.toInt32 = clr N (tk k)) (hk : ∀ (co1 ow1 tk1 : Nat → Int32), mvP (keep N ow) T T co co co1 → mvP (keep N ow) T T ow ow ow1 → mvP (keep N ow) T T tk (fun k => clr N (tk k)) tk1 → ∀ (H : Heap) (locs : List Loc), va_P D vwCl (XW h0 h1 h2 h3 h4 h5 d1 d2 d3 d4 d5 T co1 ow1 tk1 N ba li dr) H → va_D A (XW h0 h1 h2 h3 h4 h5 d1 d2 d3 d4 d5 T co1 ow1 tk1 N ba li dr) → va_S A s.heap H locs → ∀ ls : Array Slot, lv_has ls 3 [(0, .ref h0), (1, .int (nI (cnt (keep N ow) T)))] → W p l e R s m args below meth c H locs 0 0 Q (F0 m 80 ls [])) : ∀ (n i : Nat) (co1 ow1 tk1 : Nat → Int32), i ≤ T → T + 1 ≤ i + n → mvP (keep N ow) i T co co co1 → mvP (keep N ow) i T ow ow ow1 → mvP (keep N ow) i T tk (fun k => clr N (tk k)) tk1 → ∀ (H : Heap) (locs : List Loc), va_P D vwCl (XW h0 h1 h2 h3 h4 h5 d1 d2 d3 d4 d5 T co1 ow1 tk1 N ba li dr) H → va_D A (XW h0 h1 h2 h3 h4 h5 d1 d2 d3 d4 d5 T co1 ow1 tk1 N ba li dr) → va_S A s.heap H locs → ∀ ls : Array Slot, lv_has ls 3 [(0, .ref h0), (1, .int (nI (cnt (keep N ow) i))), (2, .int (nI i))] → W p l e R s m args below meth c H locs 0 0 Q (F0 m 4 ls []) := by
  intro n
  induction n with
  | zero =>
    intro i co1 ow1 tk1 h1 h2
    exact absurd h2 (by omega)
  | succ n ih =>
    intro i co1 ow1 tk1 hi hn hs1 hs2 hs3 H locs hP hD hS ls hl
    have hci := cnt_le (keep N ow) i
    refine lv_iload_n hx hb dX0_sweep_4 rfl (lv_at hl 2 rfl) ?_
    refine lv_aload_n hx hb dX0_sweep_5 rfl (lv_at hl 0 rfl) ?_
    refine gX_total hx hb hts hown hK hP dX0_sweep_6 ?_
    refine wz_ge (tgt := 80) hx hb (by omega) (by omega) dX0_sweep_9 (by decide) (fun c_9 => ?_) (fun c_9 => ?_)
    · rw [show i = T from by omega] at hl hs1 hs2 hs3
      exact hk co1 ow1 tk1 hs1 hs2 hs3 _ _ hP hD hS ls (lv_sub hl [0, 1] rfl)
    · refine lv_aload_n hx hb dX0_sweep_12 rfl (lv_at hl 0 rfl) ?_
      refine gX_owners hx hb hts hown hK hP dX0_sweep_13 ?_
      refine lv_iload_n hx hb dX0_sweep_16 rfl (lv_at hl 2 rfl) ?_
      refine lX_owners hx hb hK hP (i := i) (by omega) dX0_sweep_17 ?_
      refine lv_aload_n hx hb dX0_sweep_18 rfl (lv_at hl 0 rfl) ?_
      refine gX_count hx hb hts hown hK hP dX0_sweep_19 ?_
      refine lv_icmp_eq (tgt := 74) hx hb dX0_sweep_22 (by decide) (fun c_22 => ?_) (fun c_22 => ?_)
      · have hkp : keep N ow i = false := keep_f ((hs2.2 i (Nat.le_refl i) c_9).symm.trans c_22)
        refine lv_iinc (v := nI (i + 1)) (lv' := [(2, .int (nI (i + 1))), (0, .ref h0), (1, .int (nI (cnt (keep N ow) i)))]) hx hb dX0_sweep_74 hl (k := 2) rfl (wz_inc1 i) (by decide) rfl (fun ls hl => ?_)
        refine lv_goto (tgt := 4) hx hb dX0_sweep_77 (by decide) ?_
        have hcs := cnt_f (p := keep N ow) (n := i) hkp
        exact ih (i + 1) co1 ow1 tk1 (by omega) (by omega) (mvP_skip hs1 hkp) (mvP_skip hs2 hkp) (mvP_skip hs3 hkp) _ _ hP hD hS ls (lv_sub hl [1, 2, 0] (by rw [hcs]; rfl))
      · have hkp : keep N ow i = true := keep_t (fun q => c_22 ((hs2.2 i (Nat.le_refl i) c_9).trans q))
        refine lv_aload_n hx hb dX0_sweep_25 rfl (lv_at hl 0 rfl) ?_
        refine gX_contents hx hb hts hown hK hP dX0_sweep_26 ?_
        refine lv_iload_n hx hb dX0_sweep_29 rfl (lv_at hl 1 rfl) ?_
        refine lv_aload_n hx hb dX0_sweep_30 rfl (lv_at hl 0 rfl) ?_
        refine gX_contents hx hb hts hown hK hP dX0_sweep_31 ?_
        refine lv_iload_n hx hb dX0_sweep_34 rfl (lv_at hl 2 rfl) ?_
        refine lX_contents hx hb hK hP (i := i) (by omega) dX0_sweep_35 ?_
        refine sX_contents hx hb hK hP hD hS (i := cnt (keep N ow) i) (x2 := co i) (by rw [hs1.2 i (Nat.le_refl i) c_9]; exact nbv (hco i c_9)) (by omega) dX0_sweep_36 (fun co_1 H locs co_1a co_1b hP hD hS => ?_)
        refine lv_aload_n hx hb dX0_sweep_37 rfl (lv_at hl 0 rfl) ?_
        refine gX_owners hx hb hts hown hK hP dX0_sweep_38 ?_
        refine lv_iload_n hx hb dX0_sweep_41 rfl (lv_at hl 1 rfl) ?_
        refine lv_aload_n hx hb dX0_sweep_42 rfl (lv_at hl 0 rfl) ?_
        refine gX_owners hx hb hts hown hK hP dX0_sweep_43 ?_
        refine lv_iload_n hx hb dX0_sweep_46 rfl (lv_at hl 2 rfl) ?_
        refine lX_owners hx hb hK hP (i := i) (by omega) dX0_sweep_47 ?_
        refine sX_owners hx hb hK hP hD hS (i := cnt (keep N ow) i) (x2 := ow i) (by rw [hs2.2 i (Nat.le_refl i) c_9]; exact nbv (how i c_9)) (by omega) dX0_sweep_48 (fun ow_2 H locs ow_2a ow_2b hP hD hS => ?_)
        refine lv_aload_n hx hb dX0_sweep_49 rfl (lv_at hl 0 rfl) ?_
        refine gX_takenOut hx hb hts hown hK hP dX0_sweep_50 ?_
        refine lv_iload_n hx hb dX0_sweep_53 rfl (lv_at hl 1 rfl) ?_
        refine lv_aload_n hx hb dX0_sweep_54 rfl (lv_at hl 0 rfl) ?_
        refine gX_takenOut hx hb hts hown hK hP dX0_sweep_55 ?_
        refine lv_iload_n hx hb dX0_sweep_58 rfl (lv_at hl 2 rfl) ?_
        refine lX_takenOut hx hb hK hP (i := i) (by omega) dX0_sweep_59 ?_
        refine lv_iconst (v := nI 1) hx hb dX0_sweep_60 (by decide +kernel) ?_
        refine lv_aload_n hx hb dX0_sweep_61 rfl (lv_at hl 0 rfl) ?_
        refine gX_count hx hb hts hown hK hP dX0_sweep_62 ?_
        refine lv_ishl hx hb dX0_sweep_65 ?_
        refine lv_iconst (v := -1) hx hb dX0_sweep_66 (by decide +kernel) ?_
        refine lv_ixor hx hb dX0_sweep_67 ?_
        refine lv_iand hx hb dX0_sweep_68 ?_
        refine lv_i2s (v := clr N (tk i)) hx hb dX0_sweep_69 (by rw [hs3.2 i (Nat.le_refl i) c_9]; exact hcl i c_9) ?_
        refine sX_takenOut hx hb hK hP hD hS (i := cnt (keep N ow) i) (x2 := clr N (tk i)) (nsv (hcl i c_9)) (by omega) dX0_sweep_70 (fun tk_3 H locs tk_3a tk_3b hP hD hS => ?_)
        refine lv_iinc (v := nI (cnt (keep N ow) i + 1)) (lv' := [(1, .int (nI (cnt (keep N ow) i + 1))), (0, .ref h0), (2, .int (nI i))]) hx hb dX0_sweep_71 hl (k := 1) rfl (wz_inc1 (cnt (keep N ow) i)) (by decide) rfl (fun ls hl => ?_)
        refine lv_iinc (v := nI (i + 1)) (lv' := [(2, .int (nI (i + 1))), (1, .int (nI (cnt (keep N ow) i + 1))), (0, .ref h0)]) hx hb dX0_sweep_74 hl (k := 2) rfl (wz_inc1 i) (by decide) rfl (fun ls hl => ?_)
        refine lv_goto (tgt := 4) hx hb dX0_sweep_77 (by decide) ?_
        have hcs := cnt_t (p := keep N ow) (n := i) hkp
        exact ih (i + 1) co_1 ow_2 tk_3 (by omega) (by omega) (mvP_step hs1 hkp co_1a co_1b) (mvP_step hs2 hkp ow_2a ow_2b) (mvP_step hs3 hkp tk_3a tk_3b) _ _ hP hD hS ls (lv_sub hl [2, 1, 0] (by rw [hcs]; rfl))
set_option maxHeartbeats 4000000 in
set_option maxRecDepth 100000 in
theorem mX_sweep (l : Launch) (D : va_G) (h0 h1 h2 h3 h4 h5 : Nat) (d1 d2 d3 d4 d5 : ClassId) (T : Nat) (co : Nat → Int32) (ow : Nat → Int32) (tk : Nat → Int32) (N : Nat) (ba : Nat → Int32) (li : Nat → Int32) (dr : Int32)  (hT : T ≤ 30) (hco : ∀ k, k < T → (co k).toInt8.toInt32 = co k) (how : ∀ k, k < T → (ow k).toInt8.toInt32 = ow k) (hcl : ∀ k, k < T → (clr N (tk k)).toInt16.toInt32 = clr N (tk k)) : MetV l yX0_sweep (ws_ yX0_sweep cX0_sweep 3 (none)) zr0 D (TYX d1 d2 d3 d4 d5) [.ref h0] (XW h0 h1 h2 h3 h4 h5 d1 d2 d3 d4 d5 T co ow tk N ba li dr) (fun u : Nat × (Nat → Int32) × (Nat → Int32) × (Nat → Int32) => swP N T co ow tk u.1 u.2.1 u.2.2.1 u.2.2.2) (fun u : Nat × (Nat → Int32) × (Nat → Int32) × (Nat → Int32) => XW h0 h1 h2 h3 h4 h5 d1 d2 d3 d4 d5 u.1 u.2.1 u.2.2.1 u.2.2.2 N ba li dr) := by
  intro sz
  refine Met.ofW (cc := cX0_sweep) (maxL := 3) (ret := none) (by decide) rfl ?_
  intro p e s m args below meth c s₁ B hml hv
  obtain ⟨rfl, hsz, hP, hK, hD0⟩ := hv
  have hx := B.exec
  have hb := B.bytes
  have hret := B.returns
  have hts := atoms_spec (ws := ws_ yX0_sweep cX0_sweep 3 (none)) B.pre
  have hts : ∀ w ∈ lw_all, w.before _ s = true := fun w h => hts w (List.mem_cons_of_mem _ h)
  have hown : s.vm.findClass RX0 = some m.cls := findClass_of_methodNamed B.named
  have hlocks := B.notSynchronized
  subst hsz
  have hD := hD0.self (sz := s.heap.size)
  generalize hAe : va_A (XW h0 h1 h2 h3 h4 h5 d1 d2 d3 d4 d5 T co ow tk N ba li dr) s.heap.size = A at hD ⊢
  have hA : ∀ q : Nat, s.heap.size ≤ q → A q := fun q h => by rw [← hAe]; exact Or.inr h
  have hS : va_S A s.heap s.heap [] := va_S.rf
  have hl := lv_entry ([.ref h0]) (n := 3) (Nat.le_of_ble_eq_true rfl)
  rw [lg_entry_eq]
  generalize (lg_sl ([.ref h0]) ++ List.replicate (3 - (lg_sl ([.ref h0])).length) Slot.unset).toArray = ls at hl ⊢
  have hl : lv_has ls 3 [(0, .ref h0)] := hl
  refine lv_iconst (v := nI 0) hx hb dX0_sweep_0 (by decide +kernel) ?_
  refine lv_istore_n (lv' := [(1, .int (nI 0)), (0, .ref h0)]) hx hb dX0_sweep_1 rfl hl (by decide) rfl (fun ls hl => ?_)
  refine lv_iconst (v := nI 0) hx hb dX0_sweep_2 (by decide +kernel) ?_
  refine lv_istore_n (lv' := [(2, .int (nI 0)), (1, .int (nI 0)), (0, .ref h0)]) hx hb dX0_sweep_3 rfl hl (by decide) rfl (fun ls hl => ?_)
  refine lpX_sweep hx hb hml hown hts hA hK ⟨Nat.le_of_ble_eq_true rfl, Nat.le_of_ble_eq_true rfl⟩ hT hco how hcl (fun co1 ow1 tk1 hs1 hs2 hs3 H locs hP hD hS ls hl => ?_) (T + 1) 0 co ow tk (Nat.zero_le T) (by omega) (mvP_0 _ _ _ _) (mvP_0 _ _ _ _) (mvP_0 _ _ _ _) _ _ hP hD hS ls (lv_sub hl [2, 1, 0] rfl)
  refine lv_aload_n hx hb dX0_sweep_80 rfl (lv_at hl 0 rfl) ?_
  refine lv_iload_n hx hb dX0_sweep_81 rfl (lv_at hl 1 rfl) ?_
  refine uX_total hx hb hts hown hK hP hD hS dX0_sweep_82 (fun H locs hP hD hS => ?_)
  exact W.vret hx hb hret (fun t ht hW => ⟨⟨(cnt (keep N ow) T, co1, ow1, tk1), rfl, ⟨rfl, fun k hk hkp => ⟨hs1.1 k hk hkp, hs2.1 k hk hkp, hs3.1 k hk hkp⟩⟩, ⟨by rw [ht]; exact hP, va_K.moved hW.alike hK, hD⟩⟩, hS.F ht⟩) hS.2.2 dX0_sweep_85
set_option maxHeartbeats 4000000 in
set_option maxRecDepth 100000 in
theorem mX_open (l : Launch) (D : va_G) (h0 h1 h2 h3 h4 h5 : Nat) (d1 d2 d3 d4 d5 : ClassId) (T : Nat) (co : Nat → Int32) (ow : Nat → Int32) (tk : Nat → Int32) (N : Nat) (ba : Nat → Int32) (li : Nat → Int32) (dr : Int32) (v : Int32) (hT : T ≤ 30) (hN : N ≤ 12) (hco : ∀ k, k < T → (co k).toInt8.toInt32 = co k) (how : ∀ k, k < T → (ow k).toInt8.toInt32 = ow k) (hcl : ∀ k, k < T → (clr N (tk k)).toInt16.toInt32 = clr N (tk k)) (hli : ∀ j, j < N → (li j ||| cbit N).toInt16.toInt32 = li j ||| cbit N) : MetI l yX0_open (ws_ yX0_open cX0_open 2 (some .int)) zr2 D (TYX d1 d2 d3 d4 d5) [.ref h0, .int v] (XW h0 h1 h2 h3 h4 h5 d1 d2 d3 d4 d5 T co ow tk N ba li dr) (fun r (u : XS) => xOpenP T co ow tk N ba li dr v r u.1 u.2.1 u.2.2.1 u.2.2.2.1 u.2.2.2.2.2.1 u.2.2.2.2.2.2.1 u.2.2.2.2.2.2.2 ∧ u.2.2.2.2.1 = N) (XU h0 h1 h2 h3 h4 h5 d1 d2 d3 d4 d5) := by
  intro sz
  refine Met.ofW (cc := cX0_open) (maxL := 2) (ret := some .int) (by decide) rfl ?_
  intro p e s m args below meth c s₁ B hml hv
  obtain ⟨rfl, hsz, hP, hK, hD0⟩ := hv
  have hx := B.exec
  have hb := B.bytes
  have hret := B.returns
  have hts := atoms_spec (ws := ws_ yX0_open cX0_open 2 (some .int)) B.pre
  have hts : ∀ w ∈ lw_all, w.before _ s = true := fun w h => hts w (List.mem_cons_of_mem _ h)
  have hown : s.vm.findClass RX0 = some m.cls := findClass_of_methodNamed B.named
  have hlocks := B.notSynchronized
  subst hsz
  have hD := hD0.self (sz := s.heap.size)
  generalize hAe : va_A (XW h0 h1 h2 h3 h4 h5 d1 d2 d3 d4 d5 T co ow tk N ba li dr) s.heap.size = A at hD ⊢
  have hA : ∀ q : Nat, s.heap.size ≤ q → A q := fun q h => by rw [← hAe]; exact Or.inr h
  have hS : va_S A s.heap s.heap [] := va_S.rf
  have hl := lv_entry ([.ref h0, .int v]) (n := 2) (Nat.le_of_ble_eq_true rfl)
  rw [lg_entry_eq]
  generalize (lg_sl ([.ref h0, .int v]) ++ List.replicate (2 - (lg_sl ([.ref h0, .int v])).length) Slot.unset).toArray = ls at hl ⊢
  have hl : lv_has ls 2 [(0, .ref h0), (1, .int v)] := hl
  refine lv_aload_n hx hb dX0_open_0 rfl (lv_at hl 0 rfl) ?_
  refine lv_iload_n hx hb dX0_open_1 rfl (lv_at hl 1 rfl) ?_
  refine cz_i (As := [.int v]) (rest := []) ⟨hx, hb, hml, hown, hts⟩ (mX_isVersion l D h0 h1 h2 h3 h4 h5 d1 d2 d3 d4 d5 T co ow tk N ba li dr v (by omega)) (cwV 1 hts (lw_V q52 q54 qs0 q11 q55) rfl rfl rfl (by decide +kernel) ⟨Nat.le_of_ble_eq_true rfl, Nat.le_of_ble_eq_true rfl⟩) hP hK hD hS hA (ci := 0) rfl rfl rfl rfl hl.1 rfl (Nat.le_of_ble_eq_true rfl) dX0_open_2 ⟨Nat.zero_le _, Nat.zero_le _⟩ (fun r u H locs hr hP hD hS => ?_)
  have hr : r = bI (vOk N v) := hr
  subst hr
  refine wz_b_ne (tgt := 10) hx hb dX0_open_5 (by decide) (fun c_5 => ?_) (fun c_5 => ?_)
  · obtain ⟨j, hj, rfl⟩ := vOk_of (by omega) c_5
    refine lv_aload_n hx hb dX0_open_10 rfl (lv_at hl 0 rfl) ?_
    refine gX_drafting hx hb hts hown hK hP dX0_open_11 ?_
    refine lv_if_eq (tgt := 21) hx hb dX0_open_14 (by decide) (fun c_14 => ?_) (fun c_14 => ?_)
    · refine lv_aload_n hx hb dX0_open_21 rfl (lv_at hl 0 rfl) ?_
      refine lv_iconst (v := nI 1) hx hb dX0_open_22 (by decide +kernel) ?_
      refine uX_drafting hx hb hts hown hK hP hD hS rfl rfl dX0_open_23 (fun H locs hP hD hS => ?_)
      refine lv_aload_n hx hb dX0_open_26 rfl (lv_at hl 0 rfl) ?_
      refine gX_bases hx hb hts hown hK hP dX0_open_27 ?_
      refine lv_aload_n hx hb dX0_open_30 rfl (lv_at hl 0 rfl) ?_
      refine gX_count hx hb hts hown hK hP dX0_open_31 ?_
      refine lv_iload_n hx hb dX0_open_34 rfl (lv_at hl 1 rfl) ?_
      refine lv_i2b (v := nI j) hx hb dX0_open_35 (nb_nI (by omega)) ?_
      refine sX_bases hx hb hK hP hD hS (i := N) (x2 := nI j) (nbv (nb_nI (by omega))) (by omega) dX0_open_36 (fun ba_1 H locs ba_1a ba_1b hP hD hS => ?_)
      refine lv_aload_n hx hb dX0_open_37 rfl (lv_at hl 0 rfl) ?_
      refine gX_lineage hx hb hts hown hK hP dX0_open_38 ?_
      refine lv_aload_n hx hb dX0_open_41 rfl (lv_at hl 0 rfl) ?_
      refine gX_count hx hb hts hown hK hP dX0_open_42 ?_
      refine lv_aload_n hx hb dX0_open_45 rfl (lv_at hl 0 rfl) ?_
      refine gX_lineage hx hb hts hown hK hP dX0_open_46 ?_
      refine lv_iload_n hx hb dX0_open_49 rfl (lv_at hl 1 rfl) ?_
      refine lX_lineage hx hb hK hP (i := j) (by omega) dX0_open_50 ?_
      refine lv_iconst (v := nI 1) hx hb dX0_open_51 (by decide +kernel) ?_
      refine lv_aload_n hx hb dX0_open_52 rfl (lv_at hl 0 rfl) ?_
      refine gX_count hx hb hts hown hK hP dX0_open_53 ?_
      refine lv_ishl hx hb dX0_open_56 ?_
      refine lv_ior hx hb dX0_open_57 ?_
      refine lv_i2s (v := li j ||| cbit N) hx hb dX0_open_58 (hli j hj) ?_
      refine sX_lineage hx hb hK hP hD hS (i := N) (x2 := li j ||| cbit N) (nsv (hli j hj)) (by omega) dX0_open_59 (fun li_2 H locs li_2a li_2b hP hD hS => ?_)
      refine lv_aload_n hx hb dX0_open_60 rfl (lv_at hl 0 rfl) ?_
      refine lv_aload_n hx hb dX0_open_61 rfl (lv_at hl 0 rfl) ?_
      refine gX_lineage hx hb hts hown hK hP dX0_open_62 ?_
      refine lv_aload_n hx hb dX0_open_65 rfl (lv_at hl 0 rfl) ?_
      refine gX_count hx hb hts hown hK hP dX0_open_66 ?_
      refine lX_lineage hx hb hK hP (i := N) (by omega) dX0_open_69 ?_
      refine cz_i (As := [.int (li_2 N)]) (rest := []) ⟨hx, hb, hml, hown, hts⟩ (mX_lengthOf l D h0 h1 h2 h3 h4 h5 d1 d2 d3 d4 d5 T co ow tk N ba_1 li_2 (nI 1) (li_2 N) hT) (cwV 1 hts (lw_V q60 q62 qs2 q11 q63) rfl rfl rfl (by decide +kernel) ⟨Nat.le_of_ble_eq_true rfl, Nat.le_of_ble_eq_true rfl⟩) hP hK hD hS hA (ci := 0) rfl rfl rfl rfl hl.1 rfl (Nat.le_of_ble_eq_true rfl) dX0_open_70 ⟨Nat.zero_le _, Nat.zero_le _⟩ (fun r u H locs hr hP hD hS => ?_)
      have hr : r = nI (cnt (pv ow tk (li_2 N)) T) := hr
      subst hr
      exact W.iret (v := nI (cnt (pv ow tk (li_2 N)) T)) hx hb hret (fun t ht hW => ⟨⟨nI (cnt (pv ow tk (li_2 N)) T), (T, co, ow, tk, N, ba_1, li_2, nI 1), rfl, ⟨Or.inr ⟨j, hj, rfl, Or.inl ⟨c_14, rfl, rfl, rfl, rfl⟩, ⟨ba_1a, ba_1b⟩, ⟨li_2a, li_2b⟩, rfl, rfl⟩, rfl⟩, ⟨by rw [ht]; exact hP, va_K.moved hW.alike hK, hD⟩⟩, hS.F ht⟩) hS.2.2 dX0_open_73
    · refine lv_aload_n hx hb dX0_open_17 rfl (lv_at hl 0 rfl) ?_
      refine cz_v (As := []) (rest := []) ⟨hx, hb, hml, hown, hts⟩ (mX_sweep l D h0 h1 h2 h3 h4 h5 d1 d2 d3 d4 d5 T co ow tk N ba li dr hT hco how hcl) (cwV 0 hts (lw_V q56 q58 qs1 q11 q59) rfl rfl rfl (by decide +kernel) ⟨Nat.le_of_ble_eq_true rfl, Nat.le_of_ble_eq_true rfl⟩) hP hK hD hS hA (ci := 0) rfl rfl rfl rfl hl.1 rfl (Nat.le_of_ble_eq_true rfl) dX0_open_18 ⟨Nat.zero_le _, Nat.zero_le _⟩ (fun u H locs hr hP hD hS => ?_)
      obtain ⟨T1, co1, ow1, tk1⟩ := u
      have hsw : swP N T co ow tk T1 co1 ow1 tk1 := hr
      have hT1 : T1 ≤ 30 := by rw [hsw.1]; exact Nat.le_trans (cnt_le _ _) hT
      have hP : va_P D vwCl (XW h0 h1 h2 h3 h4 h5 d1 d2 d3 d4 d5 T1 co1 ow1 tk1 N ba li dr) H := hP
      have hD : va_D A (XW h0 h1 h2 h3 h4 h5 d1 d2 d3 d4 d5 T1 co1 ow1 tk1 N ba li dr) := hD
      refine lv_aload_n hx hb dX0_open_21 rfl (lv_at hl 0 rfl) ?_
      refine lv_iconst (v := nI 1) hx hb dX0_open_22 (by decide +kernel) ?_
      refine uX_drafting hx hb hts hown hK hP hD hS rfl rfl dX0_open_23 (fun H locs hP hD hS => ?_)
      refine lv_aload_n hx hb dX0_open_26 rfl (lv_at hl 0 rfl) ?_
      refine gX_bases hx hb hts hown hK hP dX0_open_27 ?_
      refine lv_aload_n hx hb dX0_open_30 rfl (lv_at hl 0 rfl) ?_
      refine gX_count hx hb hts hown hK hP dX0_open_31 ?_
      refine lv_iload_n hx hb dX0_open_34 rfl (lv_at hl 1 rfl) ?_
      refine lv_i2b (v := nI j) hx hb dX0_open_35 (nb_nI (by omega)) ?_
      refine sX_bases hx hb hK hP hD hS (i := N) (x2 := nI j) (nbv (nb_nI (by omega))) (by omega) dX0_open_36 (fun ba_3 H locs ba_3a ba_3b hP hD hS => ?_)
      refine lv_aload_n hx hb dX0_open_37 rfl (lv_at hl 0 rfl) ?_
      refine gX_lineage hx hb hts hown hK hP dX0_open_38 ?_
      refine lv_aload_n hx hb dX0_open_41 rfl (lv_at hl 0 rfl) ?_
      refine gX_count hx hb hts hown hK hP dX0_open_42 ?_
      refine lv_aload_n hx hb dX0_open_45 rfl (lv_at hl 0 rfl) ?_
      refine gX_lineage hx hb hts hown hK hP dX0_open_46 ?_
      refine lv_iload_n hx hb dX0_open_49 rfl (lv_at hl 1 rfl) ?_
      refine lX_lineage hx hb hK hP (i := j) (by omega) dX0_open_50 ?_
      refine lv_iconst (v := nI 1) hx hb dX0_open_51 (by decide +kernel) ?_
      refine lv_aload_n hx hb dX0_open_52 rfl (lv_at hl 0 rfl) ?_
      refine gX_count hx hb hts hown hK hP dX0_open_53 ?_
      refine lv_ishl hx hb dX0_open_56 ?_
      refine lv_ior hx hb dX0_open_57 ?_
      refine lv_i2s (v := li j ||| cbit N) hx hb dX0_open_58 (hli j hj) ?_
      refine sX_lineage hx hb hK hP hD hS (i := N) (x2 := li j ||| cbit N) (nsv (hli j hj)) (by omega) dX0_open_59 (fun li_4 H locs li_4a li_4b hP hD hS => ?_)
      refine lv_aload_n hx hb dX0_open_60 rfl (lv_at hl 0 rfl) ?_
      refine lv_aload_n hx hb dX0_open_61 rfl (lv_at hl 0 rfl) ?_
      refine gX_lineage hx hb hts hown hK hP dX0_open_62 ?_
      refine lv_aload_n hx hb dX0_open_65 rfl (lv_at hl 0 rfl) ?_
      refine gX_count hx hb hts hown hK hP dX0_open_66 ?_
      refine lX_lineage hx hb hK hP (i := N) (by omega) dX0_open_69 ?_
      refine cz_i (As := [.int (li_4 N)]) (rest := []) ⟨hx, hb, hml, hown, hts⟩ (mX_lengthOf l D h0 h1 h2 h3 h4 h5 d1 d2 d3 d4 d5 T1 co1 ow1 tk1 N ba_3 li_4 (nI 1) (li_4 N) hT1) (cwV 1 hts (lw_V q60 q62 qs2 q11 q63) rfl rfl rfl (by decide +kernel) ⟨Nat.le_of_ble_eq_true rfl, Nat.le_of_ble_eq_true rfl⟩) hP hK hD hS hA (ci := 0) rfl rfl rfl rfl hl.1 rfl (Nat.le_of_ble_eq_true rfl) dX0_open_70 ⟨Nat.zero_le _, Nat.zero_le _⟩ (fun r u H locs hr hP hD hS => ?_)
      have hr : r = nI (cnt (pv ow1 tk1 (li_4 N)) T1) := hr
      subst hr
      exact W.iret (v := nI (cnt (pv ow1 tk1 (li_4 N)) T1)) hx hb hret (fun t ht hW => ⟨⟨nI (cnt (pv ow1 tk1 (li_4 N)) T1), (T1, co1, ow1, tk1, N, ba_3, li_4, nI 1), rfl, ⟨Or.inr ⟨j, hj, rfl, Or.inr ⟨c_14, hsw⟩, ⟨ba_3a, ba_3b⟩, ⟨li_4a, li_4b⟩, rfl, rfl⟩, rfl⟩, ⟨by rw [ht]; exact hP, va_K.moved hW.alike hK, hD⟩⟩, hS.F ht⟩) hS.2.2 dX0_open_73
  · refine lv_iconst (v := -1) hx hb dX0_open_8 (by decide +kernel) ?_
    exact W.iret (v := -1) hx hb hret (fun t ht hW => ⟨⟨-1, (T, co, ow, tk, N, ba, li, dr), rfl, ⟨Or.inl ⟨c_5, rfl, rfl, rfl, rfl, rfl, rfl, rfl, rfl⟩, rfl⟩, ⟨by rw [ht]; exact hP, va_K.moved hW.alike hK, hD⟩⟩, hS.F ht⟩) hS.2.2 dX0_open_9
set_option maxHeartbeats 4000000 in
set_option maxRecDepth 100000 in
theorem mX_put (l : Launch) (D : va_G) (h0 h1 h2 h3 h4 h5 : Nat) (d1 d2 d3 d4 d5 : ClassId) (T : Nat) (co : Nat → Int32) (ow : Nat → Int32) (tk : Nat → Int32) (N : Nat) (ba : Nat → Int32) (li : Nat → Int32) (dr : Int32) (i x : Int32) (hT : T ≤ 30) (hN : N ≤ 12) (hco : ∀ k, k < T → (co k).toInt8.toInt32 = co k) (how : ∀ k, k < T → (ow k).toInt8.toInt32 = ow k) (htk : ∀ k, k < T → (tk k).toInt16.toInt32 = tk k) : MetI l yX0_put (ws_ yX0_put cX0_put 6 (some .int)) zr2 D (TYX d1 d2 d3 d4 d5) [.ref h0, .int i, .int x] (XW h0 h1 h2 h3 h4 h5 d1 d2 d3 d4 d5 T co ow tk N ba li dr) (fun r (u : Nat × (Nat → Int32) × (Nat → Int32) × (Nat → Int32)) => xPutP T co ow tk N li dr i x r u.1 u.2.1 u.2.2.1 u.2.2.2) (fun u : Nat × (Nat → Int32) × (Nat → Int32) × (Nat → Int32) => XW h0 h1 h2 h3 h4 h5 d1 d2 d3 d4 d5 u.1 u.2.1 u.2.2.1 u.2.2.2 N ba li dr) := by
  intro sz
  refine Met.ofW (cc := cX0_put) (maxL := 6) (ret := some .int) (by decide) rfl ?_
  intro p e s m args below meth c s₁ B hml hv
  obtain ⟨rfl, hsz, hP, hK, hD0⟩ := hv
  have hx := B.exec
  have hb := B.bytes
  have hret := B.returns
  have hts := atoms_spec (ws := ws_ yX0_put cX0_put 6 (some .int)) B.pre
  have hts : ∀ w ∈ lw_all, w.before _ s = true := fun w h => hts w (List.mem_cons_of_mem _ h)
  have hown : s.vm.findClass RX0 = some m.cls := findClass_of_methodNamed B.named
  have hlocks := B.notSynchronized
  subst hsz
  have hD := hD0.self (sz := s.heap.size)
  generalize hAe : va_A (XW h0 h1 h2 h3 h4 h5 d1 d2 d3 d4 d5 T co ow tk N ba li dr) s.heap.size = A at hD ⊢
  have hA : ∀ q : Nat, s.heap.size ≤ q → A q := fun q h => by rw [← hAe]; exact Or.inr h
  have hS : va_S A s.heap s.heap [] := va_S.rf
  have hl := lv_entry ([.ref h0, .int i, .int x]) (n := 6) (Nat.le_of_ble_eq_true rfl)
  rw [lg_entry_eq]
  generalize (lg_sl ([.ref h0, .int i, .int x]) ++ List.replicate (6 - (lg_sl ([.ref h0, .int i, .int x])).length) Slot.unset).toArray = ls at hl ⊢
  have hl : lv_has ls 6 [(0, .ref h0), (1, .int i), (2, .int x)] := hl
  have hcn := cnt_le (pv ow tk (li N)) T
  refine lv_aload_n hx hb dX0_put_0 rfl (lv_at hl 0 rfl) ?_
  refine gX_drafting hx hb hts hown hK hP dX0_put_1 ?_
  refine lv_if_eq (tgt := 21) hx hb dX0_put_4 (by decide) (fun c_4 => ?_) (fun c_4 => ?_)
  · refine lv_iconst (v := -1) hx hb dX0_put_21 (by decide +kernel) ?_
    exact W.iret (v := -1) hx hb hret (fun t ht hW => ⟨⟨-1, (T, co, ow, tk), rfl, Or.inl ⟨Or.inl c_4, rfl, rfl, rfl, rfl, rfl⟩, ⟨by rw [ht]; exact hP, va_K.moved hW.alike hK, hD⟩⟩, hS.F ht⟩) hS.2.2 dX0_put_22
  · refine lv_iload_n hx hb dX0_put_7 rfl (lv_at hl 2 rfl) ?_
    refine lv_if_lt (tgt := 21) hx hb dX0_put_8 (by decide) (fun c_8 => ?_) (fun c_8 => ?_)
    · refine lv_iconst (v := -1) hx hb dX0_put_21 (by decide +kernel) ?_
      exact W.iret (v := -1) hx hb hret (fun t ht hW => ⟨⟨-1, (T, co, ow, tk), rfl, Or.inl ⟨Or.inr (Or.inl c_8), rfl, rfl, rfl, rfl, rfl⟩, ⟨by rw [ht]; exact hP, va_K.moved hW.alike hK, hD⟩⟩, hS.F ht⟩) hS.2.2 dX0_put_22
    · refine lv_iload_n hx hb dX0_put_11 rfl (lv_at hl 2 rfl) ?_
      refine lv_bipush (v := nI 99) hx hb dX0_put_12 (by decide +kernel) ?_
      refine lv_icmp_gt (tgt := 21) hx hb dX0_put_14 (by decide) (fun c_14 => ?_) (fun c_14 => ?_)
      · refine lv_iconst (v := -1) hx hb dX0_put_21 (by decide +kernel) ?_
        exact W.iret (v := -1) hx hb hret (fun t ht hW => ⟨⟨-1, (T, co, ow, tk), rfl, Or.inl ⟨Or.inr (Or.inr (Or.inl c_14)), rfl, rfl, rfl, rfl, rfl⟩, ⟨by rw [ht]; exact hP, va_K.moved hW.alike hK, hD⟩⟩, hS.F ht⟩) hS.2.2 dX0_put_22
      · refine lv_iload_n hx hb dX0_put_17 rfl (lv_at hl 1 rfl) ?_
        refine lv_if_ge (tgt := 23) hx hb dX0_put_18 (by decide) (fun c_18 => ?_) (fun c_18 => ?_)
        · obtain ⟨ii, hii, rfl⟩ := nI_of (Int32.not_lt.mpr c_18)
          refine lv_aload_n hx hb dX0_put_23 rfl (lv_at hl 0 rfl) ?_
          refine gX_lineage hx hb hts hown hK hP dX0_put_24 ?_
          refine lv_aload_n hx hb dX0_put_27 rfl (lv_at hl 0 rfl) ?_
          refine gX_count hx hb hts hown hK hP dX0_put_28 ?_
          refine lX_lineage hx hb hK hP (i := N) (by omega) dX0_put_31 ?_
          refine lv_istore_n (lv' := [(3, .int (li N)), (0, .ref h0), (1, .int (nI ii)), (2, .int x)]) hx hb dX0_put_32 rfl hl (by decide) rfl (fun ls hl => ?_)
          refine lv_aload_n hx hb dX0_put_33 rfl (lv_at hl 1 rfl) ?_
          refine lv_iload_n hx hb dX0_put_34 rfl (lv_at hl 0 rfl) ?_
          refine cz_i (As := [.int (li N)]) (rest := []) ⟨hx, hb, hml, hown, hts⟩ (mX_lengthOf l D h0 h1 h2 h3 h4 h5 d1 d2 d3 d4 d5 T co ow tk N ba li dr (li N) hT) (cwV 1 hts (lw_V q60 q62 qs2 q11 q63) rfl rfl rfl (by decide +kernel) ⟨Nat.le_of_ble_eq_true rfl, Nat.le_of_ble_eq_true rfl⟩) hP hK hD hS hA (ci := 0) rfl rfl rfl rfl hl.1 rfl (Nat.le_of_ble_eq_true rfl) dX0_put_35 ⟨Nat.zero_le _, Nat.zero_le _⟩ (fun r u H locs hr hP hD hS => ?_)
          have hr : r = nI (cnt (pv ow tk (li N)) T) := hr
          subst hr
          refine lv_istore (lv' := [(4, .int (nI (cnt (pv ow tk (li N)) T))), (3, .int (li N)), (0, .ref h0), (1, .int (nI ii)), (2, .int x)]) hx hb dX0_put_38 hl (by decide) rfl (fun ls hl => ?_)
          refine lv_iload_n hx hb dX0_put_40 rfl (lv_at hl 3 rfl) ?_
          refine lv_iload hx hb dX0_put_41 (lv_at hl 0 rfl) ?_
          refine wz_le (tgt := 48) hx hb (by omega) (by omega) dX0_put_43 (by decide) (fun c_43 => ?_) (fun c_43 => ?_)
          · refine lv_iload hx hb dX0_put_48 (lv_at hl 0 rfl) ?_
            refine lv_bipush (v := nI 12) hx hb dX0_put_50 (by decide +kernel) ?_
            refine wz_ge (tgt := 64) hx hb (by omega) (by omega) dX0_put_52 (by decide) (fun c_52 => ?_) (fun c_52 => ?_)
            · refine lv_bipush (v := -2) hx hb dX0_put_64 (by decide +kernel) ?_
              exact W.iret (v := -2) hx hb hret (fun t ht hW => ⟨⟨-2, (T, co, ow, tk), rfl, Or.inr (Or.inl ⟨not_putBad c_4 c_8 c_14 (nI_pos hii) (nI_nlt c_43 (by omega)), Or.inl c_52, rfl, rfl, rfl, rfl, rfl⟩), ⟨by rw [ht]; exact hP, va_K.moved hW.alike hK, hD⟩⟩, hS.F ht⟩) hS.2.2 dX0_put_66
            · refine lv_aload_n hx hb dX0_put_55 rfl (lv_at hl 2 rfl) ?_
              refine gX_total hx hb hts hown hK hP dX0_put_56 ?_
              refine lv_bipush (v := nI 30) hx hb dX0_put_59 (by decide +kernel) ?_
              refine wz_lt (tgt := 67) hx hb (by omega) (by omega) dX0_put_61 (by decide) (fun c_61 => ?_) (fun c_61 => ?_)
              · refine lv_iload_n hx hb dX0_put_67 rfl (lv_at hl 3 rfl) ?_
                refine wz_n_ne (tgt := 75) hx hb (by omega) dX0_put_68 (by decide) (fun c_68 => ?_) (fun c_68 => ?_)
                · refine lv_aload_n hx hb dX0_put_75 rfl (lv_at hl 2 rfl) ?_
                  refine lv_iload_n hx hb dX0_put_76 rfl (lv_at hl 1 rfl) ?_
                  refine lv_iload_n hx hb dX0_put_77 rfl (lv_at hl 3 rfl) ?_
                  refine lv_iconst (v := nI 1) hx hb dX0_put_78 (by decide +kernel) ?_
                  refine wz_isub hx hb (ii - 1) (by omega) dX0_put_79 ?_
                  refine cz_i (As := [.int (li N), .int (nI (ii - 1))]) (rest := []) ⟨hx, hb, hml, hown, hts⟩ (mX_find l D h0 h1 h2 h3 h4 h5 d1 d2 d3 d4 d5 T co ow tk N ba li dr (li N) (ii - 1) hT (by omega)) (cwV 2 hts (lw_V q72 q74 qs4 q11 q75) rfl rfl rfl (by decide +kernel) ⟨Nat.le_of_ble_eq_true rfl, Nat.le_of_ble_eq_true rfl⟩) hP hK hD hS hA (ci := 0) rfl rfl rfl rfl hl.1 rfl (Nat.le_of_ble_eq_true rfl) dX0_put_80 ⟨Nat.zero_le _, Nat.zero_le _⟩ (fun r u H locs hr hP hD hS => ?_)
                  have hr : r = fnd (pv ow tk (li N)) T (ii - 1) := hr
                  rcases fnd_cases (pv ow tk (li N)) T (ii - 1) with ⟨q1, q2⟩ | ⟨k, hk, hp, he, hf⟩
                  · exact absurd q1 (by omega)
                  · have hr : r = nI k := hr.trans hf
                    subst hr
                    have hcs := cnt_t (p := pv ow tk (li N)) (n := k) hp
                    refine lv_istore (lv' := [(5, .int (nI k)), (4, .int (nI (cnt (pv ow tk (li N)) T))), (3, .int (li N)), (0, .ref h0), (1, .int (nI ii)), (2, .int x)]) hx hb dX0_put_83 hl (by decide) rfl (fun ls hl => ?_)
                    refine lv_aload_n hx hb dX0_put_85 rfl (lv_at hl 3 rfl) ?_
                    refine lv_iload hx hb dX0_put_86 (lv_at hl 0 rfl) ?_
                    refine lv_iconst (v := nI 1) hx hb dX0_put_88 (by decide +kernel) ?_
                    refine wz_iadd hx hb dX0_put_89 ?_
                    refine lv_iload_n hx hb dX0_put_90 rfl (lv_at hl 5 rfl) ?_
                    refine cz_v (As := [.int (nI (k + 1)), .int x]) (rest := []) ⟨hx, hb, hml, hown, hts⟩ (mX_insert l D h0 h1 h2 h3 h4 h5 d1 d2 d3 d4 d5 T co ow tk N ba li dr (k + 1) x (by omega) hN (by omega) (x8 c_8 c_14) hco how htk) (cwV 2 hts (lw_V q76 q78 qs5 q11 q79) rfl rfl rfl (by decide +kernel) ⟨Nat.le_of_ble_eq_true rfl, Nat.le_of_ble_eq_true rfl⟩) hP hK hD hS hA (ci := 0) rfl rfl rfl rfl hl.1 rfl (Nat.le_of_ble_eq_true rfl) dX0_put_91 ⟨Nat.zero_le _, Nat.zero_le _⟩ (fun u H locs hr hP hD hS => ?_)
                    obtain ⟨co1, ow1, tk1⟩ := u
                    obtain ⟨hi1, hi2, hi3⟩ : insP (k + 1) T co x co1 ∧ insP (k + 1) T ow (nI N) ow1 ∧ insP (k + 1) T tk (nI 0) tk1 := hr
                    have hP : va_P D vwCl (XW h0 h1 h2 h3 h4 h5 d1 d2 d3 d4 d5 (T + 1) co1 ow1 tk1 N ba li dr) H := hP
                    have hD : va_D A (XW h0 h1 h2 h3 h4 h5 d1 d2 d3 d4 d5 (T + 1) co1 ow1 tk1 N ba li dr) := hD
                    refine lv_iload hx hb dX0_put_94 (lv_at hl 1 rfl) ?_
                    refine lv_iconst (v := nI 1) hx hb dX0_put_96 (by decide +kernel) ?_
                    refine wz_iadd hx hb dX0_put_97 ?_
                    exact W.iret (v := nI ((cnt (pv ow tk (li N)) T) + 1)) hx hb hret (fun t ht hW => ⟨⟨nI ((cnt (pv ow tk (li N)) T) + 1), (T + 1, co1, ow1, tk1), rfl, Or.inr (Or.inr ⟨not_putBad c_4 c_8 c_14 (nI_pos hii) (nI_nlt c_43 (by omega)), c_52, c_61, rfl, rfl, k + 1, ii, by omega, rfl, c_43, by omega, hi1, hi2, hi3⟩), ⟨by rw [ht]; exact hP, va_K.moved hW.alike hK, hD⟩⟩, hS.F ht⟩) hS.2.2 dX0_put_98
                · refine lv_iconst (v := -1) hx hb dX0_put_71 (by decide +kernel) ?_
                  refine lv_goto (tgt := 83) hx hb dX0_put_72 (by decide) ?_
                  refine lv_istore (lv' := [(5, .int (-1)), (4, .int (nI (cnt (pv ow tk (li N)) T))), (3, .int (li N)), (0, .ref h0), (1, .int (nI ii)), (2, .int x)]) hx hb dX0_put_83 hl (by decide) rfl (fun ls hl => ?_)
                  refine lv_aload_n hx hb dX0_put_85 rfl (lv_at hl 3 rfl) ?_
                  refine lv_iload hx hb dX0_put_86 (lv_at hl 0 rfl) ?_
                  refine lv_iconst (v := nI 1) hx hb dX0_put_88 (by decide +kernel) ?_
                  refine lv_iadd hx hb dX0_put_89 ?_
                  refine wz_top (x := (-1) + (nI 1)) (y := nI 0) (m1_1) ?_
                  refine lv_iload_n hx hb dX0_put_90 rfl (lv_at hl 5 rfl) ?_
                  refine cz_v (As := [.int (nI 0), .int x]) (rest := []) ⟨hx, hb, hml, hown, hts⟩ (mX_insert l D h0 h1 h2 h3 h4 h5 d1 d2 d3 d4 d5 T co ow tk N ba li dr (0) x (by omega) hN (by omega) (x8 c_8 c_14) hco how htk) (cwV 2 hts (lw_V q76 q78 qs5 q11 q79) rfl rfl rfl (by decide +kernel) ⟨Nat.le_of_ble_eq_true rfl, Nat.le_of_ble_eq_true rfl⟩) hP hK hD hS hA (ci := 0) rfl rfl rfl rfl hl.1 rfl (Nat.le_of_ble_eq_true rfl) dX0_put_91 ⟨Nat.zero_le _, Nat.zero_le _⟩ (fun u H locs hr hP hD hS => ?_)
                  obtain ⟨co1, ow1, tk1⟩ := u
                  obtain ⟨hi1, hi2, hi3⟩ : insP (0) T co x co1 ∧ insP (0) T ow (nI N) ow1 ∧ insP (0) T tk (nI 0) tk1 := hr
                  have hP : va_P D vwCl (XW h0 h1 h2 h3 h4 h5 d1 d2 d3 d4 d5 (T + 1) co1 ow1 tk1 N ba li dr) H := hP
                  have hD : va_D A (XW h0 h1 h2 h3 h4 h5 d1 d2 d3 d4 d5 (T + 1) co1 ow1 tk1 N ba li dr) := hD
                  refine lv_iload hx hb dX0_put_94 (lv_at hl 1 rfl) ?_
                  refine lv_iconst (v := nI 1) hx hb dX0_put_96 (by decide +kernel) ?_
                  refine wz_iadd hx hb dX0_put_97 ?_
                  exact W.iret (v := nI ((cnt (pv ow tk (li N)) T) + 1)) hx hb hret (fun t ht hW => ⟨⟨nI ((cnt (pv ow tk (li N)) T) + 1), (T + 1, co1, ow1, tk1), rfl, Or.inr (Or.inr ⟨not_putBad c_4 c_8 c_14 (nI_pos hii) (nI_nlt c_43 (by omega)), c_52, c_61, rfl, rfl, 0, ii, by omega, rfl, c_43, c_68.symm, hi1, hi2, hi3⟩), ⟨by rw [ht]; exact hP, va_K.moved hW.alike hK, hD⟩⟩, hS.F ht⟩) hS.2.2 dX0_put_98
              · refine lv_bipush (v := -2) hx hb dX0_put_64 (by decide +kernel) ?_
                exact W.iret (v := -2) hx hb hret (fun t ht hW => ⟨⟨-2, (T, co, ow, tk), rfl, Or.inr (Or.inl ⟨not_putBad c_4 c_8 c_14 (nI_pos hii) (nI_nlt c_43 (by omega)), Or.inr c_61, rfl, rfl, rfl, rfl, rfl⟩), ⟨by rw [ht]; exact hP, va_K.moved hW.alike hK, hD⟩⟩, hS.F ht⟩) hS.2.2 dX0_put_66
          · refine lv_iconst (v := -1) hx hb dX0_put_46 (by decide +kernel) ?_
            exact W.iret (v := -1) hx hb hret (fun t ht hW => ⟨⟨-1, (T, co, ow, tk), rfl, Or.inl ⟨Or.inr (Or.inr (Or.inr (Or.inr (nI_lt c_43 (by omega))))), rfl, rfl, rfl, rfl, rfl⟩, ⟨by rw [ht]; exact hP, va_K.moved hW.alike hK, hD⟩⟩, hS.F ht⟩) hS.2.2 dX0_put_47
        · refine lv_iconst (v := -1) hx hb dX0_put_21 (by decide +kernel) ?_
          exact W.iret (v := -1) hx hb hret (fun t ht hW => ⟨⟨-1, (T, co, ow, tk), rfl, Or.inl ⟨Or.inr (Or.inr (Or.inr (Or.inl (Int32.not_le.mp c_18)))), rfl, rfl, rfl, rfl, rfl⟩, ⟨by rw [ht]; exact hP, va_K.moved hW.alike hK, hD⟩⟩, hS.F ht⟩) hS.2.2 dX0_put_22
set_option maxHeartbeats 4000000 in
set_option maxRecDepth 100000 in
theorem mX_cut (l : Launch) (D : va_G) (h0 h1 h2 h3 h4 h5 : Nat) (d1 d2 d3 d4 d5 : ClassId) (T : Nat) (co : Nat → Int32) (ow : Nat → Int32) (tk : Nat → Int32) (N : Nat) (ba : Nat → Int32) (li : Nat → Int32) (dr : Int32) (i : Int32) (hT : T ≤ 30) (hN : N ≤ 12) (htn : ∀ k, k < T → (tk k ||| cbit N).toInt16.toInt32 = tk k ||| cbit N) : MetI l yX0_cut (ws_ yX0_cut cX0_cut 3 (some .int)) zr2 D (TYX d1 d2 d3 d4 d5) [.ref h0, .int i] (XW h0 h1 h2 h3 h4 h5 d1 d2 d3 d4 d5 T co ow tk N ba li dr) (fun r (u : Nat → Int32) => xCutP T co ow tk N li dr i r u) (fun u : Nat → Int32 => XW h0 h1 h2 h3 h4 h5 d1 d2 d3 d4 d5 T co ow u N ba li dr) := by
  intro sz
  refine Met.ofW (cc := cX0_cut) (maxL := 3) (ret := some .int) (by decide) rfl ?_
  intro p e s m args below meth c s₁ B hml hv
  obtain ⟨rfl, hsz, hP, hK, hD0⟩ := hv
  have hx := B.exec
  have hb := B.bytes
  have hret := B.returns
  have hts := atoms_spec (ws := ws_ yX0_cut cX0_cut 3 (some .int)) B.pre
  have hts : ∀ w ∈ lw_all, w.before _ s = true := fun w h => hts w (List.mem_cons_of_mem _ h)
  have hown : s.vm.findClass RX0 = some m.cls := findClass_of_methodNamed B.named
  have hlocks := B.notSynchronized
  subst hsz
  have hD := hD0.self (sz := s.heap.size)
  generalize hAe : va_A (XW h0 h1 h2 h3 h4 h5 d1 d2 d3 d4 d5 T co ow tk N ba li dr) s.heap.size = A at hD ⊢
  have hA : ∀ q : Nat, s.heap.size ≤ q → A q := fun q h => by rw [← hAe]; exact Or.inr h
  have hS : va_S A s.heap s.heap [] := va_S.rf
  have hl := lv_entry ([.ref h0, .int i]) (n := 3) (Nat.le_of_ble_eq_true rfl)
  rw [lg_entry_eq]
  generalize (lg_sl ([.ref h0, .int i]) ++ List.replicate (3 - (lg_sl ([.ref h0, .int i])).length) Slot.unset).toArray = ls at hl ⊢
  have hl : lv_has ls 3 [(0, .ref h0), (1, .int i)] := hl
  have hcn := cnt_le (pv ow tk (li N)) T
  refine lv_aload_n hx hb dX0_cut_0 rfl (lv_at hl 0 rfl) ?_
  refine gX_drafting hx hb hts hown hK hP dX0_cut_1 ?_
  refine lv_if_eq (tgt := 28) hx hb dX0_cut_4 (by decide) (fun c_4 => ?_) (fun c_4 => ?_)
  · refine lv_iconst (v := -1) hx hb dX0_cut_28 (by decide +kernel) ?_
    refine lv_istore_n (lv' := [(2, .int (-1)), (0, .ref h0), (1, .int i)]) hx hb dX0_cut_29 rfl hl (by decide) rfl (fun ls hl => ?_)
    refine lv_iload_n hx hb dX0_cut_30 rfl (lv_at hl 0 rfl) ?_
    refine wz_m_ge (tgt := 36) hx hb dX0_cut_31 (by decide) ?_
    refine lv_iconst (v := -1) hx hb dX0_cut_34 (by decide +kernel) ?_
    exact W.iret (v := -1) hx hb hret (fun t ht hW => ⟨⟨-1, tk, rfl, Or.inl ⟨Or.inl c_4, rfl, rfl⟩, ⟨by rw [ht]; exact hP, va_K.moved hW.alike hK, hD⟩⟩, hS.F ht⟩) hS.2.2 dX0_cut_35
  · refine lv_iload_n hx hb dX0_cut_7 rfl (lv_at hl 1 rfl) ?_
    refine lv_if_lt (tgt := 28) hx hb dX0_cut_8 (by decide) (fun c_8 => ?_) (fun c_8 => ?_)
    · refine lv_iconst (v := -1) hx hb dX0_cut_28 (by decide +kernel) ?_
      refine lv_istore_n (lv' := [(2, .int (-1)), (0, .ref h0), (1, .int i)]) hx hb dX0_cut_29 rfl hl (by decide) rfl (fun ls hl => ?_)
      refine lv_iload_n hx hb dX0_cut_30 rfl (lv_at hl 0 rfl) ?_
      refine wz_m_ge (tgt := 36) hx hb dX0_cut_31 (by decide) ?_
      refine lv_iconst (v := -1) hx hb dX0_cut_34 (by decide +kernel) ?_
      exact W.iret (v := -1) hx hb hret (fun t ht hW => ⟨⟨-1, tk, rfl, Or.inl ⟨Or.inr (Or.inl c_8), rfl, rfl⟩, ⟨by rw [ht]; exact hP, va_K.moved hW.alike hK, hD⟩⟩, hS.F ht⟩) hS.2.2 dX0_cut_35
    · obtain ⟨ii, hii, rfl⟩ := nI_of c_8
      refine lv_aload_n hx hb dX0_cut_11 rfl (lv_at hl 0 rfl) ?_
      refine lv_aload_n hx hb dX0_cut_12 rfl (lv_at hl 0 rfl) ?_
      refine gX_lineage hx hb hts hown hK hP dX0_cut_13 ?_
      refine lv_aload_n hx hb dX0_cut_16 rfl (lv_at hl 0 rfl) ?_
      refine gX_count hx hb hts hown hK hP dX0_cut_17 ?_
      refine lX_lineage hx hb hK hP (i := N) (by omega) dX0_cut_20 ?_
      refine lv_iload_n hx hb dX0_cut_21 rfl (lv_at hl 1 rfl) ?_
      refine cz_i (As := [.int (li N), .int (nI ii)]) (rest := []) ⟨hx, hb, hml, hown, hts⟩ (mX_find l D h0 h1 h2 h3 h4 h5 d1 d2 d3 d4 d5 T co ow tk N ba li dr (li N) ii hT hii) (cwV 2 hts (lw_V q72 q74 qs4 q11 q75) rfl rfl rfl (by decide +kernel) ⟨Nat.le_of_ble_eq_true rfl, Nat.le_of_ble_eq_true rfl⟩) hP hK hD hS hA (ci := 0) rfl rfl rfl rfl hl.1 rfl (Nat.le_of_ble_eq_true rfl) dX0_cut_22 ⟨Nat.zero_le _, Nat.zero_le _⟩ (fun r u H locs hr hP hD hS => ?_)
      have hr : r = fnd (pv ow tk (li N)) T ii := hr
      rcases fnd_cases (pv ow tk (li N)) T ii with ⟨q1, q2⟩ | ⟨k, hk, hp, he, hf⟩
      · have hr : r = -1 := hr.trans q2
        subst hr
        refine lv_goto (tgt := 29) hx hb dX0_cut_25 (by decide) ?_
        refine lv_istore_n (lv' := [(2, .int (-1)), (0, .ref h0), (1, .int (nI ii))]) hx hb dX0_cut_29 rfl hl (by decide) rfl (fun ls hl => ?_)
        refine lv_iload_n hx hb dX0_cut_30 rfl (lv_at hl 0 rfl) ?_
        refine wz_m_ge (tgt := 36) hx hb dX0_cut_31 (by decide) ?_
        refine lv_iconst (v := -1) hx hb dX0_cut_34 (by decide +kernel) ?_
        exact W.iret (v := -1) hx hb hret (fun t ht hW => ⟨⟨-1, tk, rfl, Or.inl ⟨Or.inr (Or.inr (nI_le q1 hii)), rfl, rfl⟩, ⟨by rw [ht]; exact hP, va_K.moved hW.alike hK, hD⟩⟩, hS.F ht⟩) hS.2.2 dX0_cut_35
      · have hr : r = nI k := hr.trans hf
        subst hr
        have hcl := cnt_lt (p := pv ow tk (li N)) hp hk
        refine lv_goto (tgt := 29) hx hb dX0_cut_25 (by decide) ?_
        refine lv_istore_n (lv' := [(2, .int (nI k)), (0, .ref h0), (1, .int (nI ii))]) hx hb dX0_cut_29 rfl hl (by decide) rfl (fun ls hl => ?_)
        refine lv_iload_n hx hb dX0_cut_30 rfl (lv_at hl 0 rfl) ?_
        refine wz_n_ge (tgt := 36) hx hb (by omega) dX0_cut_31 (by decide) ?_
        refine lv_aload_n hx hb dX0_cut_36 rfl (lv_at hl 1 rfl) ?_
        refine gX_takenOut hx hb hts hown hK hP dX0_cut_37 ?_
        refine lv_iload_n hx hb dX0_cut_40 rfl (lv_at hl 0 rfl) ?_
        refine lv_aload_n hx hb dX0_cut_41 rfl (lv_at hl 1 rfl) ?_
        refine gX_takenOut hx hb hts hown hK hP dX0_cut_42 ?_
        refine lv_iload_n hx hb dX0_cut_45 rfl (lv_at hl 0 rfl) ?_
        refine lX_takenOut hx hb hK hP (i := k) (by omega) dX0_cut_46 ?_
        refine lv_iconst (v := nI 1) hx hb dX0_cut_47 (by decide +kernel) ?_
        refine lv_aload_n hx hb dX0_cut_48 rfl (lv_at hl 1 rfl) ?_
        refine gX_count hx hb hts hown hK hP dX0_cut_49 ?_
        refine lv_ishl hx hb dX0_cut_52 ?_
        refine lv_ior hx hb dX0_cut_53 ?_
        refine lv_i2s (v := tk k ||| cbit N) hx hb dX0_cut_54 (htn k hk) ?_
        refine sX_takenOut hx hb hK hP hD hS (i := k) (x2 := tk k ||| cbit N) (nsv (htn k hk)) (by omega) dX0_cut_55 (fun tk_1 H locs tk_1a tk_1b hP hD hS => ?_)
        refine lv_aload_n hx hb dX0_cut_56 rfl (lv_at hl 1 rfl) ?_
        refine gX_contents hx hb hts hown hK hP dX0_cut_57 ?_
        refine lv_iload_n hx hb dX0_cut_60 rfl (lv_at hl 0 rfl) ?_
        refine lX_contents hx hb hK hP (i := k) (by omega) dX0_cut_61 ?_
        exact W.iret (v := co k) hx hb hret (fun t ht hW => ⟨⟨co k, tk_1, rfl, Or.inr ⟨not_cutBad c_4 (nI_pos hii) (nI_ge (by omega) (by omega)), k, hk, hp, congrArg nI he.symm, rfl, tk_1a, tk_1b⟩, ⟨by rw [ht]; exact hP, va_K.moved hW.alike hK, hD⟩⟩, hS.F ht⟩) hS.2.2 dX0_cut_62
set_option maxHeartbeats 4000000 in
set_option maxRecDepth 100000 in
theorem mX_close (l : Launch) (D : va_G) (h0 h1 h2 h3 h4 h5 : Nat) (d1 d2 d3 d4 d5 : ClassId) (T : Nat) (co : Nat → Int32) (ow : Nat → Int32) (tk : Nat → Int32) (N : Nat) (ba : Nat → Int32) (li : Nat → Int32) (dr : Int32)  (hN : N ≤ 12) : MetI l yX0_close (ws_ yX0_close cX0_close 1 (some .int)) zr0 D (TYX d1 d2 d3 d4 d5) [.ref h0] (XW h0 h1 h2 h3 h4 h5 d1 d2 d3 d4 d5 T co ow tk N ba li dr) (fun r (u : Nat × Int32) => xCloseP N dr r u.1 u.2) (fun u : Nat × Int32 => XW h0 h1 h2 h3 h4 h5 d1 d2 d3 d4 d5 T co ow tk u.1 ba li u.2) := by
  intro sz
  refine Met.ofW (cc := cX0_close) (maxL := 1) (ret := some .int) (by decide) rfl ?_
  intro p e s m args below meth c s₁ B hml hv
  obtain ⟨rfl, hsz, hP, hK, hD0⟩ := hv
  have hx := B.exec
  have hb := B.bytes
  have hret := B.returns
  have hts := atoms_spec (ws := ws_ yX0_close cX0_close 1 (some .int)) B.pre
  have hts : ∀ w ∈ lw_all, w.before _ s = true := fun w h => hts w (List.mem_cons_of_mem _ h)
  have hown : s.vm.findClass RX0 = some m.cls := findClass_of_methodNamed B.named
  have hlocks := B.notSynchronized
  subst hsz
  have hD := hD0.self (sz := s.heap.size)
  generalize hAe : va_A (XW h0 h1 h2 h3 h4 h5 d1 d2 d3 d4 d5 T co ow tk N ba li dr) s.heap.size = A at hD ⊢
  have hA : ∀ q : Nat, s.heap.size ≤ q → A q := fun q h => by rw [← hAe]; exact Or.inr h
  have hS : va_S A s.heap s.heap [] := va_S.rf
  have hl := lv_entry ([.ref h0]) (n := 1) (Nat.le_of_ble_eq_true rfl)
  rw [lg_entry_eq]
  generalize (lg_sl ([.ref h0]) ++ List.replicate (1 - (lg_sl ([.ref h0])).length) Slot.unset).toArray = ls at hl ⊢
  have hl : lv_has ls 1 [(0, .ref h0)] := hl
  refine lv_aload_n hx hb dX0_close_0 rfl (lv_at hl 0 rfl) ?_
  refine gX_drafting hx hb hts hown hK hP dX0_close_1 ?_
  refine lv_if_ne (tgt := 9) hx hb dX0_close_4 (by decide) (fun c_4 => ?_) (fun c_4 => ?_)
  · refine lv_aload_n hx hb dX0_close_9 rfl (lv_at hl 0 rfl) ?_
    refine gX_count hx hb hts hown hK hP dX0_close_10 ?_
    refine lv_bipush (v := nI 12) hx hb dX0_close_13 (by decide +kernel) ?_
    refine wz_lt (tgt := 21) hx hb (by omega) (by omega) dX0_close_15 (by decide) (fun c_15 => ?_) (fun c_15 => ?_)
    · refine lv_aload_n hx hb dX0_close_21 rfl (lv_at hl 0 rfl) ?_
      refine lv_iconst (v := nI 0) hx hb dX0_close_22 (by decide +kernel) ?_
      refine uX_drafting hx hb hts hown hK hP hD hS rfl rfl dX0_close_23 (fun H locs hP hD hS => ?_)
      refine lv_aload_n hx hb dX0_close_26 rfl (lv_at hl 0 rfl) ?_
      refine lv_dup hx hb dX0_close_27 rfl ?_
      refine gX_count hx hb hts hown hK hP dX0_close_28 ?_
      refine lv_iconst (v := nI 1) hx hb dX0_close_31 (by decide +kernel) ?_
      refine wz_iadd hx hb dX0_close_32 ?_
      refine uX_count hx hb hts hown hK hP hD hS dX0_close_33 (fun H locs hP hD hS => ?_)
      refine lv_aload_n hx hb dX0_close_36 rfl (lv_at hl 0 rfl) ?_
      refine gX_count hx hb hts hown hK hP dX0_close_37 ?_
      refine lv_iconst (v := nI 1) hx hb dX0_close_40 (by decide +kernel) ?_
      refine wz_isub hx hb N (by omega) dX0_close_41 ?_
      exact W.iret (v := nI N) hx hb hret (fun t ht hW => ⟨⟨nI N, (N + 1, nI 0), rfl, Or.inr (Or.inr ⟨c_4, c_15, rfl, rfl, rfl⟩), ⟨by rw [ht]; exact hP, va_K.moved hW.alike hK, hD⟩⟩, hS.F ht⟩) hS.2.2 dX0_close_42
    · refine lv_bipush (v := -2) hx hb dX0_close_18 (by decide +kernel) ?_
      exact W.iret (v := -2) hx hb hret (fun t ht hW => ⟨⟨-2, (N, dr), rfl, Or.inr (Or.inl ⟨c_4, c_15, rfl, rfl, rfl⟩), ⟨by rw [ht]; exact hP, va_K.moved hW.alike hK, hD⟩⟩, hS.F ht⟩) hS.2.2 dX0_close_20
  · refine lv_iconst (v := -1) hx hb dX0_close_7 (by decide +kernel) ?_
    exact W.iret (v := -1) hx hb hret (fun t ht hW => ⟨⟨-1, (N, dr), rfl, Or.inl ⟨c_4, rfl, rfl, rfl⟩, ⟨by rw [ht]; exact hP, va_K.moved hW.alike hK, hD⟩⟩, hS.F ht⟩) hS.2.2 dX0_close_8
set_option maxHeartbeats 4000000 in
set_option maxRecDepth 100000 in
theorem mX_discard (l : Launch) (D : va_G) (h0 h1 h2 h3 h4 h5 : Nat) (d1 d2 d3 d4 d5 : ClassId) (T : Nat) (co : Nat → Int32) (ow : Nat → Int32) (tk : Nat → Int32) (N : Nat) (ba : Nat → Int32) (li : Nat → Int32) (dr : Int32)  (hT : T ≤ 30) (hco : ∀ k, k < T → (co k).toInt8.toInt32 = co k) (how : ∀ k, k < T → (ow k).toInt8.toInt32 = ow k) (hcl : ∀ k, k < T → (clr N (tk k)).toInt16.toInt32 = clr N (tk k)) : MetI l yX0_discard (ws_ yX0_discard cX0_discard 1 (some .boolean)) zr1 D (TYX d1 d2 d3 d4 d5) [.ref h0] (XW h0 h1 h2 h3 h4 h5 d1 d2 d3 d4 d5 T co ow tk N ba li dr) (fun r (u : Nat × (Nat → Int32) × (Nat → Int32) × (Nat → Int32) × Int32) => xDiscP T co ow tk N dr r u.1 u.2.1 u.2.2.1 u.2.2.2.1 u.2.2.2.2) (fun u : Nat × (Nat → Int32) × (Nat → Int32) × (Nat → Int32) × Int32 => XW h0 h1 h2 h3 h4 h5 d1 d2 d3 d4 d5 u.1 u.2.1 u.2.2.1 u.2.2.2.1 N ba li u.2.2.2.2) := by
  intro sz
  refine Met.ofW (cc := cX0_discard) (maxL := 1) (ret := some .boolean) (by decide) rfl ?_
  intro p e s m args below meth c s₁ B hml hv
  obtain ⟨rfl, hsz, hP, hK, hD0⟩ := hv
  have hx := B.exec
  have hb := B.bytes
  have hret := B.returns
  have hts := atoms_spec (ws := ws_ yX0_discard cX0_discard 1 (some .boolean)) B.pre
  have hts : ∀ w ∈ lw_all, w.before _ s = true := fun w h => hts w (List.mem_cons_of_mem _ h)
  have hown : s.vm.findClass RX0 = some m.cls := findClass_of_methodNamed B.named
  have hlocks := B.notSynchronized
  subst hsz
  have hD := hD0.self (sz := s.heap.size)
  generalize hAe : va_A (XW h0 h1 h2 h3 h4 h5 d1 d2 d3 d4 d5 T co ow tk N ba li dr) s.heap.size = A at hD ⊢
  have hA : ∀ q : Nat, s.heap.size ≤ q → A q := fun q h => by rw [← hAe]; exact Or.inr h
  have hS : va_S A s.heap s.heap [] := va_S.rf
  have hl := lv_entry ([.ref h0]) (n := 1) (Nat.le_of_ble_eq_true rfl)
  rw [lg_entry_eq]
  generalize (lg_sl ([.ref h0]) ++ List.replicate (1 - (lg_sl ([.ref h0])).length) Slot.unset).toArray = ls at hl ⊢
  have hl : lv_has ls 1 [(0, .ref h0)] := hl
  refine lv_aload_n hx hb dX0_discard_0 rfl (lv_at hl 0 rfl) ?_
  refine gX_drafting hx hb hts hown hK hP dX0_discard_1 ?_
  refine lv_if_ne (tgt := 9) hx hb dX0_discard_4 (by decide) (fun c_4 => ?_) (fun c_4 => ?_)
  · refine lv_aload_n hx hb dX0_discard_9 rfl (lv_at hl 0 rfl) ?_
    refine cz_v (As := []) (rest := []) ⟨hx, hb, hml, hown, hts⟩ (mX_sweep l D h0 h1 h2 h3 h4 h5 d1 d2 d3 d4 d5 T co ow tk N ba li dr hT hco how hcl) (cwV 0 hts (lw_V q56 q58 qs1 q11 q59) rfl rfl rfl (by decide +kernel) ⟨Nat.le_of_ble_eq_true rfl, Nat.le_of_ble_eq_true rfl⟩) hP hK hD hS hA (ci := 0) rfl rfl rfl rfl hl.1 rfl (Nat.le_of_ble_eq_true rfl) dX0_discard_10 ⟨Nat.zero_le _, Nat.zero_le _⟩ (fun u H locs hr hP hD hS => ?_)
    obtain ⟨T1, co1, ow1, tk1⟩ := u
    have hsw : swP N T co ow tk T1 co1 ow1 tk1 := hr
    have hT1 : T1 ≤ 30 := by rw [hsw.1]; exact Nat.le_trans (cnt_le _ _) hT
    have hP : va_P D vwCl (XW h0 h1 h2 h3 h4 h5 d1 d2 d3 d4 d5 T1 co1 ow1 tk1 N ba li dr) H := hP
    have hD : va_D A (XW h0 h1 h2 h3 h4 h5 d1 d2 d3 d4 d5 T1 co1 ow1 tk1 N ba li dr) := hD
    refine lv_aload_n hx hb dX0_discard_13 rfl (lv_at hl 0 rfl) ?_
    refine lv_iconst (v := nI 0) hx hb dX0_discard_14 (by decide +kernel) ?_
    refine uX_drafting hx hb hts hown hK hP hD hS rfl rfl dX0_discard_15 (fun H locs hP hD hS => ?_)
    refine lv_iconst (v := nI 1) hx hb dX0_discard_18 (by decide +kernel) ?_
    exact W.zret (v := nI 1) hx hb hret (rfl) (fun t ht hW => ⟨⟨nI 1, (T1, co1, ow1, tk1, nI 0), rfl, Or.inr ⟨c_4, rfl, hsw, rfl⟩, ⟨by rw [ht]; exact hP, va_K.moved hW.alike hK, hD⟩⟩, hS.F ht⟩) hS.2.2 dX0_discard_19
  · refine lv_iconst (v := nI 0) hx hb dX0_discard_7 (by decide +kernel) ?_
    exact W.zret (v := nI 0) hx hb hret (rfl) (fun t ht hW => ⟨⟨nI 0, (T, co, ow, tk, dr), rfl, Or.inl ⟨c_4, rfl, rfl, rfl, rfl, rfl, rfl⟩, ⟨by rw [ht]; exact hP, va_K.moved hW.alike hK, hD⟩⟩, hS.F ht⟩) hS.2.2 dX0_discard_8
set_option maxHeartbeats 4000000 in
set_option maxRecDepth 100000 in
theorem mX_versions (l : Launch) (D : va_G) (h0 h1 h2 h3 h4 h5 : Nat) (d1 d2 d3 d4 d5 : ClassId) (T : Nat) (co : Nat → Int32) (ow : Nat → Int32) (tk : Nat → Int32) (N : Nat) (ba : Nat → Int32) (li : Nat → Int32) (dr : Int32)   : MetI l yX0_versions (ws_ yX0_versions cX0_versions 1 (some .int)) zr0 D (TYX d1 d2 d3 d4 d5) [.ref h0] (XW h0 h1 h2 h3 h4 h5 d1 d2 d3 d4 d5 T co ow tk N ba li dr) (fun r (_ : Unit) => r = nI N) (fun _ : Unit => XW h0 h1 h2 h3 h4 h5 d1 d2 d3 d4 d5 T co ow tk N ba li dr) := by
  intro sz
  refine Met.ofW (cc := cX0_versions) (maxL := 1) (ret := some .int) (by decide) rfl ?_
  intro p e s m args below meth c s₁ B hml hv
  obtain ⟨rfl, hsz, hP, hK, hD0⟩ := hv
  have hx := B.exec
  have hb := B.bytes
  have hret := B.returns
  have hts := atoms_spec (ws := ws_ yX0_versions cX0_versions 1 (some .int)) B.pre
  have hts : ∀ w ∈ lw_all, w.before _ s = true := fun w h => hts w (List.mem_cons_of_mem _ h)
  have hown : s.vm.findClass RX0 = some m.cls := findClass_of_methodNamed B.named
  have hlocks := B.notSynchronized
  subst hsz
  have hD := hD0.self (sz := s.heap.size)
  generalize hAe : va_A (XW h0 h1 h2 h3 h4 h5 d1 d2 d3 d4 d5 T co ow tk N ba li dr) s.heap.size = A at hD ⊢
  have hA : ∀ q : Nat, s.heap.size ≤ q → A q := fun q h => by rw [← hAe]; exact Or.inr h
  have hS : va_S A s.heap s.heap [] := va_S.rf
  have hl := lv_entry ([.ref h0]) (n := 1) (Nat.le_of_ble_eq_true rfl)
  rw [lg_entry_eq]
  generalize (lg_sl ([.ref h0]) ++ List.replicate (1 - (lg_sl ([.ref h0])).length) Slot.unset).toArray = ls at hl ⊢
  have hl : lv_has ls 1 [(0, .ref h0)] := hl
  refine lv_aload_n hx hb dX0_versions_0 rfl (lv_at hl 0 rfl) ?_
  refine gX_count hx hb hts hown hK hP dX0_versions_1 ?_
  exact W.iret (v := nI N) hx hb hret (fun t ht hW => ⟨⟨nI N, (), rfl, rfl, ⟨by rw [ht]; exact hP, va_K.moved hW.alike hK, hD⟩⟩, hS.F ht⟩) hS.2.2 dX0_versions_4
end
section
/-! WeaveStore: the reading methods -/
set_option maxHeartbeats 4000000 in
set_option maxRecDepth 100000 in
theorem mX_length (l : Launch) (D : va_G) (h0 h1 h2 h3 h4 h5 : Nat) (d1 d2 d3 d4 d5 : ClassId) (T : Nat) (co : Nat → Int32) (ow : Nat → Int32) (tk : Nat → Int32) (N : Nat) (ba : Nat → Int32) (li : Nat → Int32) (dr : Int32) (v : Int32) (hT : T ≤ 30) (hN : N ≤ 12) : MetI l yX0_length (ws_ yX0_length cX0_length 2 (some .int)) zr2 D (TYX d1 d2 d3 d4 d5) [.ref h0, .int v] (XW h0 h1 h2 h3 h4 h5 d1 d2 d3 d4 d5 T co ow tk N ba li dr) (fun r (_ : Unit) => verP N v r (-1) (fun j => nI (cnt (pv ow tk (li j)) T))) (fun _ : Unit => XW h0 h1 h2 h3 h4 h5 d1 d2 d3 d4 d5 T co ow tk N ba li dr) := by
  intro sz
  refine Met.ofW (cc := cX0_length) (maxL := 2) (ret := some .int) (by decide) rfl ?_
  intro p e s m args below meth c s₁ B hml hv
  obtain ⟨rfl, hsz, hP, hK, hD0⟩ := hv
  have hx := B.exec
  have hb := B.bytes
  have hret := B.returns
  have hts := atoms_spec (ws := ws_ yX0_length cX0_length 2 (some .int)) B.pre
  have hts : ∀ w ∈ lw_all, w.before _ s = true := fun w h => hts w (List.mem_cons_of_mem _ h)
  have hown : s.vm.findClass RX0 = some m.cls := findClass_of_methodNamed B.named
  have hlocks := B.notSynchronized
  subst hsz
  have hD := hD0.self (sz := s.heap.size)
  generalize hAe : va_A (XW h0 h1 h2 h3 h4 h5 d1 d2 d3 d4 d5 T co ow tk N ba li dr) s.heap.size = A at hD ⊢
  have hA : ∀ q : Nat, s.heap.size ≤ q → A q := fun q h => by rw [← hAe]; exact Or.inr h
  have hS : va_S A s.heap s.heap [] := va_S.rf
  have hl := lv_entry ([.ref h0, .int v]) (n := 2) (Nat.le_of_ble_eq_true rfl)
  rw [lg_entry_eq]
  generalize (lg_sl ([.ref h0, .int v]) ++ List.replicate (2 - (lg_sl ([.ref h0, .int v])).length) Slot.unset).toArray = ls at hl ⊢
  have hl : lv_has ls 2 [(0, .ref h0), (1, .int v)] := hl
  refine lv_aload_n hx hb dX0_length_0 rfl (lv_at hl 0 rfl) ?_
  refine lv_iload_n hx hb dX0_length_1 rfl (lv_at hl 1 rfl) ?_
  refine cz_i (As := [.int v]) (rest := []) ⟨hx, hb, hml, hown, hts⟩ (mX_isVersion l D h0 h1 h2 h3 h4 h5 d1 d2 d3 d4 d5 T co ow tk N ba li dr v (by omega)) (cwV 1 hts (lw_V q52 q54 qs0 q11 q55) rfl rfl rfl (by decide +kernel) ⟨Nat.le_of_ble_eq_true rfl, Nat.le_of_ble_eq_true rfl⟩) hP hK hD hS hA (ci := 0) rfl rfl rfl rfl hl.1 rfl (Nat.le_of_ble_eq_true rfl) dX0_length_2 ⟨Nat.zero_le _, Nat.zero_le _⟩ (fun r u H locs hr hP hD hS => ?_)
  have hr : r = bI (vOk N v) := hr
  subst hr
  refine wz_b_eq (tgt := 21) hx hb dX0_length_5 (by decide) (fun c_5 => ?_) (fun c_5 => ?_)
  · refine lv_iconst (v := -1) hx hb dX0_length_21 (by decide +kernel) ?_
    exact W.iret (v := -1) hx hb hret (fun t ht hW => ⟨⟨-1, (), rfl, Or.inl ⟨c_5, rfl⟩, ⟨by rw [ht]; exact hP, va_K.moved hW.alike hK, hD⟩⟩, hS.F ht⟩) hS.2.2 dX0_length_22
  · obtain ⟨j, hj, rfl⟩ := vOk_of (by omega) c_5
    refine lv_aload_n hx hb dX0_length_8 rfl (lv_at hl 0 rfl) ?_
    refine lv_aload_n hx hb dX0_length_9 rfl (lv_at hl 0 rfl) ?_
    refine gX_lineage hx hb hts hown hK hP dX0_length_10 ?_
    refine lv_iload_n hx hb dX0_length_13 rfl (lv_at hl 1 rfl) ?_
    refine lX_lineage hx hb hK hP (i := j) (by omega) dX0_length_14 ?_
    refine cz_i (As := [.int (li j)]) (rest := []) ⟨hx, hb, hml, hown, hts⟩ (mX_lengthOf l D h0 h1 h2 h3 h4 h5 d1 d2 d3 d4 d5 T co ow tk N ba li dr (li j) hT) (cwV 1 hts (lw_V q60 q62 qs2 q11 q63) rfl rfl rfl (by decide +kernel) ⟨Nat.le_of_ble_eq_true rfl, Nat.le_of_ble_eq_true rfl⟩) hP hK hD hS hA (ci := 0) rfl rfl rfl rfl hl.1 rfl (Nat.le_of_ble_eq_true rfl) dX0_length_15 ⟨Nat.zero_le _, Nat.zero_le _⟩ (fun r u H locs hr hP hD hS => ?_)
    have hr : r = nI (cnt (pv ow tk (li j)) T) := hr
    subst hr
    refine lv_goto (tgt := 22) hx hb dX0_length_18 (by decide) ?_
    exact W.iret (v := nI (cnt (pv ow tk (li j)) T)) hx hb hret (fun t ht hW => ⟨⟨nI (cnt (pv ow tk (li j)) T), (), rfl, Or.inr ⟨j, hj, rfl, rfl⟩, ⟨by rw [ht]; exact hP, va_K.moved hW.alike hK, hD⟩⟩, hS.F ht⟩) hS.2.2 dX0_length_22
set_option maxHeartbeats 4000000 in
set_option maxRecDepth 100000 in
theorem mX_base (l : Launch) (D : va_G) (h0 h1 h2 h3 h4 h5 : Nat) (d1 d2 d3 d4 d5 : ClassId) (T : Nat) (co : Nat → Int32) (ow : Nat → Int32) (tk : Nat → Int32) (N : Nat) (ba : Nat → Int32) (li : Nat → Int32) (dr : Int32) (v : Int32) (hT : T ≤ 30) (hN : N ≤ 12) : MetI l yX0_base (ws_ yX0_base cX0_base 2 (some .int)) zr1 D (TYX d1 d2 d3 d4 d5) [.ref h0, .int v] (XW h0 h1 h2 h3 h4 h5 d1 d2 d3 d4 d5 T co ow tk N ba li dr) (fun r (_ : Unit) => verP N v r (-1) (ba)) (fun _ : Unit => XW h0 h1 h2 h3 h4 h5 d1 d2 d3 d4 d5 T co ow tk N ba li dr) := by
  intro sz
  refine Met.ofW (cc := cX0_base) (maxL := 2) (ret := some .int) (by decide) rfl ?_
  intro p e s m args below meth c s₁ B hml hv
  obtain ⟨rfl, hsz, hP, hK, hD0⟩ := hv
  have hx := B.exec
  have hb := B.bytes
  have hret := B.returns
  have hts := atoms_spec (ws := ws_ yX0_base cX0_base 2 (some .int)) B.pre
  have hts : ∀ w ∈ lw_all, w.before _ s = true := fun w h => hts w (List.mem_cons_of_mem _ h)
  have hown : s.vm.findClass RX0 = some m.cls := findClass_of_methodNamed B.named
  have hlocks := B.notSynchronized
  subst hsz
  have hD := hD0.self (sz := s.heap.size)
  generalize hAe : va_A (XW h0 h1 h2 h3 h4 h5 d1 d2 d3 d4 d5 T co ow tk N ba li dr) s.heap.size = A at hD ⊢
  have hA : ∀ q : Nat, s.heap.size ≤ q → A q := fun q h => by rw [← hAe]; exact Or.inr h
  have hS : va_S A s.heap s.heap [] := va_S.rf
  have hl := lv_entry ([.ref h0, .int v]) (n := 2) (Nat.le_of_ble_eq_true rfl)
  rw [lg_entry_eq]
  generalize (lg_sl ([.ref h0, .int v]) ++ List.replicate (2 - (lg_sl ([.ref h0, .int v])).length) Slot.unset).toArray = ls at hl ⊢
  have hl : lv_has ls 2 [(0, .ref h0), (1, .int v)] := hl
  refine lv_aload_n hx hb dX0_base_0 rfl (lv_at hl 0 rfl) ?_
  refine lv_iload_n hx hb dX0_base_1 rfl (lv_at hl 1 rfl) ?_
  refine cz_i (As := [.int v]) (rest := []) ⟨hx, hb, hml, hown, hts⟩ (mX_isVersion l D h0 h1 h2 h3 h4 h5 d1 d2 d3 d4 d5 T co ow tk N ba li dr v (by omega)) (cwV 1 hts (lw_V q52 q54 qs0 q11 q55) rfl rfl rfl (by decide +kernel) ⟨Nat.le_of_ble_eq_true rfl, Nat.le_of_ble_eq_true rfl⟩) hP hK hD hS hA (ci := 0) rfl rfl rfl rfl hl.1 rfl (Nat.le_of_ble_eq_true rfl) dX0_base_2 ⟨Nat.zero_le _, Nat.zero_le _⟩ (fun r u H locs hr hP hD hS => ?_)
  have hr : r = bI (vOk N v) := hr
  subst hr
  refine wz_b_eq (tgt := 17) hx hb dX0_base_5 (by decide) (fun c_5 => ?_) (fun c_5 => ?_)
  · refine lv_iconst (v := -1) hx hb dX0_base_17 (by decide +kernel) ?_
    exact W.iret (v := -1) hx hb hret (fun t ht hW => ⟨⟨-1, (), rfl, Or.inl ⟨c_5, rfl⟩, ⟨by rw [ht]; exact hP, va_K.moved hW.alike hK, hD⟩⟩, hS.F ht⟩) hS.2.2 dX0_base_18
  · obtain ⟨j, hj, rfl⟩ := vOk_of (by omega) c_5
    refine lv_aload_n hx hb dX0_base_8 rfl (lv_at hl 0 rfl) ?_
    refine gX_bases hx hb hts hown hK hP dX0_base_9 ?_
    refine lv_iload_n hx hb dX0_base_12 rfl (lv_at hl 1 rfl) ?_
    refine lX_bases hx hb hK hP (i := j) (by omega) dX0_base_13 ?_
    refine lv_goto (tgt := 18) hx hb dX0_base_14 (by decide) ?_
    exact W.iret (v := ba j) hx hb hret (fun t ht hW => ⟨⟨ba j, (), rfl, Or.inr ⟨j, hj, rfl, rfl⟩, ⟨by rw [ht]; exact hP, va_K.moved hW.alike hK, hD⟩⟩, hS.F ht⟩) hS.2.2 dX0_base_18
set_option maxHeartbeats 4000000 in
set_option maxRecDepth 100000 in
theorem mX_ancestors (l : Launch) (D : va_G) (h0 h1 h2 h3 h4 h5 : Nat) (d1 d2 d3 d4 d5 : ClassId) (T : Nat) (co : Nat → Int32) (ow : Nat → Int32) (tk : Nat → Int32) (N : Nat) (ba : Nat → Int32) (li : Nat → Int32) (dr : Int32) (v : Int32) (hT : T ≤ 30) (hN : N ≤ 12) : MetI l yX0_ancestors (ws_ yX0_ancestors cX0_ancestors 2 (some .int)) zr1 D (TYX d1 d2 d3 d4 d5) [.ref h0, .int v] (XW h0 h1 h2 h3 h4 h5 d1 d2 d3 d4 d5 T co ow tk N ba li dr) (fun r (_ : Unit) => verP N v r (nI 0) (li)) (fun _ : Unit => XW h0 h1 h2 h3 h4 h5 d1 d2 d3 d4 d5 T co ow tk N ba li dr) := by
  intro sz
  refine Met.ofW (cc := cX0_ancestors) (maxL := 2) (ret := some .int) (by decide) rfl ?_
  intro p e s m args below meth c s₁ B hml hv
  obtain ⟨rfl, hsz, hP, hK, hD0⟩ := hv
  have hx := B.exec
  have hb := B.bytes
  have hret := B.returns
  have hts := atoms_spec (ws := ws_ yX0_ancestors cX0_ancestors 2 (some .int)) B.pre
  have hts : ∀ w ∈ lw_all, w.before _ s = true := fun w h => hts w (List.mem_cons_of_mem _ h)
  have hown : s.vm.findClass RX0 = some m.cls := findClass_of_methodNamed B.named
  have hlocks := B.notSynchronized
  subst hsz
  have hD := hD0.self (sz := s.heap.size)
  generalize hAe : va_A (XW h0 h1 h2 h3 h4 h5 d1 d2 d3 d4 d5 T co ow tk N ba li dr) s.heap.size = A at hD ⊢
  have hA : ∀ q : Nat, s.heap.size ≤ q → A q := fun q h => by rw [← hAe]; exact Or.inr h
  have hS : va_S A s.heap s.heap [] := va_S.rf
  have hl := lv_entry ([.ref h0, .int v]) (n := 2) (Nat.le_of_ble_eq_true rfl)
  rw [lg_entry_eq]
  generalize (lg_sl ([.ref h0, .int v]) ++ List.replicate (2 - (lg_sl ([.ref h0, .int v])).length) Slot.unset).toArray = ls at hl ⊢
  have hl : lv_has ls 2 [(0, .ref h0), (1, .int v)] := hl
  refine lv_aload_n hx hb dX0_ancestors_0 rfl (lv_at hl 0 rfl) ?_
  refine lv_iload_n hx hb dX0_ancestors_1 rfl (lv_at hl 1 rfl) ?_
  refine cz_i (As := [.int v]) (rest := []) ⟨hx, hb, hml, hown, hts⟩ (mX_isVersion l D h0 h1 h2 h3 h4 h5 d1 d2 d3 d4 d5 T co ow tk N ba li dr v (by omega)) (cwV 1 hts (lw_V q52 q54 qs0 q11 q55) rfl rfl rfl (by decide +kernel) ⟨Nat.le_of_ble_eq_true rfl, Nat.le_of_ble_eq_true rfl⟩) hP hK hD hS hA (ci := 0) rfl rfl rfl rfl hl.1 rfl (Nat.le_of_ble_eq_true rfl) dX0_ancestors_2 ⟨Nat.zero_le _, Nat.zero_le _⟩ (fun r u H locs hr hP hD hS => ?_)
  have hr : r = bI (vOk N v) := hr
  subst hr
  refine wz_b_eq (tgt := 17) hx hb dX0_ancestors_5 (by decide) (fun c_5 => ?_) (fun c_5 => ?_)
  · refine lv_iconst (v := nI 0) hx hb dX0_ancestors_17 (by decide +kernel) ?_
    exact W.iret (v := nI 0) hx hb hret (fun t ht hW => ⟨⟨nI 0, (), rfl, Or.inl ⟨c_5, rfl⟩, ⟨by rw [ht]; exact hP, va_K.moved hW.alike hK, hD⟩⟩, hS.F ht⟩) hS.2.2 dX0_ancestors_18
  · obtain ⟨j, hj, rfl⟩ := vOk_of (by omega) c_5
    refine lv_aload_n hx hb dX0_ancestors_8 rfl (lv_at hl 0 rfl) ?_
    refine gX_lineage hx hb hts hown hK hP dX0_ancestors_9 ?_
    refine lv_iload_n hx hb dX0_ancestors_12 rfl (lv_at hl 1 rfl) ?_
    refine lX_lineage hx hb hK hP (i := j) (by omega) dX0_ancestors_13 ?_
    refine lv_goto (tgt := 18) hx hb dX0_ancestors_14 (by decide) ?_
    exact W.iret (v := li j) hx hb hret (fun t ht hW => ⟨⟨li j, (), rfl, Or.inr ⟨j, hj, rfl, rfl⟩, ⟨by rw [ht]; exact hP, va_K.moved hW.alike hK, hD⟩⟩, hS.F ht⟩) hS.2.2 dX0_ancestors_18
set_option maxHeartbeats 4000000 in
set_option maxRecDepth 100000 in
theorem mX_lineAt (l : Launch) (D : va_G) (h0 h1 h2 h3 h4 h5 : Nat) (d1 d2 d3 d4 d5 : ClassId) (T : Nat) (co : Nat → Int32) (ow : Nat → Int32) (tk : Nat → Int32) (N : Nat) (ba : Nat → Int32) (li : Nat → Int32) (dr : Int32) (v i : Int32) (hT : T ≤ 30) (hN : N ≤ 12) : MetI l yX0_lineAt (ws_ yX0_lineAt cX0_lineAt 3 (some .int)) zr2 D (TYX d1 d2 d3 d4 d5) [.ref h0, .int v, .int i] (XW h0 h1 h2 h3 h4 h5 d1 d2 d3 d4 d5 T co ow tk N ba li dr) (fun r (_ : Unit) => xatP N T (fun j => pv ow tk (li j)) v i r (-1) (fun k => nI k)) (fun _ : Unit => XW h0 h1 h2 h3 h4 h5 d1 d2 d3 d4 d5 T co ow tk N ba li dr) := by
  intro sz
  refine Met.ofW (cc := cX0_lineAt) (maxL := 3) (ret := some .int) (by decide) rfl ?_
  intro p e s m args below meth c s₁ B hml hv
  obtain ⟨rfl, hsz, hP, hK, hD0⟩ := hv
  have hx := B.exec
  have hb := B.bytes
  have hret := B.returns
  have hts := atoms_spec (ws := ws_ yX0_lineAt cX0_lineAt 3 (some .int)) B.pre
  have hts : ∀ w ∈ lw_all, w.before _ s = true := fun w h => hts w (List.mem_cons_of_mem _ h)
  have hown : s.vm.findClass RX0 = some m.cls := findClass_of_methodNamed B.named
  have hlocks := B.notSynchronized
  subst hsz
  have hD := hD0.self (sz := s.heap.size)
  generalize hAe : va_A (XW h0 h1 h2 h3 h4 h5 d1 d2 d3 d4 d5 T co ow tk N ba li dr) s.heap.size = A at hD ⊢
  have hA : ∀ q : Nat, s.heap.size ≤ q → A q := fun q h => by rw [← hAe]; exact Or.inr h
  have hS : va_S A s.heap s.heap [] := va_S.rf
  have hl := lv_entry ([.ref h0, .int v, .int i]) (n := 3) (Nat.le_of_ble_eq_true rfl)
  rw [lg_entry_eq]
  generalize (lg_sl ([.ref h0, .int v, .int i]) ++ List.replicate (3 - (lg_sl ([.ref h0, .int v, .int i])).length) Slot.unset).toArray = ls at hl ⊢
  have hl : lv_has ls 3 [(0, .ref h0), (1, .int v), (2, .int i)] := hl
  refine lv_aload_n hx hb dX0_lineAt_0 rfl (lv_at hl 0 rfl) ?_
  refine lv_iload_n hx hb dX0_lineAt_1 rfl (lv_at hl 1 rfl) ?_
  refine cz_i (As := [.int v]) (rest := []) ⟨hx, hb, hml, hown, hts⟩ (mX_isVersion l D h0 h1 h2 h3 h4 h5 d1 d2 d3 d4 d5 T co ow tk N ba li dr v (by omega)) (cwV 1 hts (lw_V q52 q54 qs0 q11 q55) rfl rfl rfl (by decide +kernel) ⟨Nat.le_of_ble_eq_true rfl, Nat.le_of_ble_eq_true rfl⟩) hP hK hD hS hA (ci := 0) rfl rfl rfl rfl hl.1 rfl (Nat.le_of_ble_eq_true rfl) dX0_lineAt_2 ⟨Nat.zero_le _, Nat.zero_le _⟩ (fun r u H locs hr hP hD hS => ?_)
  have hr : r = bI (vOk N v) := hr
  subst hr
  refine wz_b_eq (tgt := 26) hx hb dX0_lineAt_5 (by decide) (fun c_5 => ?_) (fun c_5 => ?_)
  · refine lv_iconst (v := -1) hx hb dX0_lineAt_26 (by decide +kernel) ?_
    exact W.iret (v := -1) hx hb hret (fun t ht hW => ⟨⟨-1, (), rfl, Or.inl ⟨Or.inl c_5, rfl⟩, ⟨by rw [ht]; exact hP, va_K.moved hW.alike hK, hD⟩⟩, hS.F ht⟩) hS.2.2 dX0_lineAt_27
  · obtain ⟨j, hj, rfl⟩ := vOk_of (by omega) c_5
    refine lv_iload_n hx hb dX0_lineAt_8 rfl (lv_at hl 2 rfl) ?_
    refine lv_if_lt (tgt := 26) hx hb dX0_lineAt_9 (by decide) (fun c_9 => ?_) (fun c_9 => ?_)
    · refine lv_iconst (v := -1) hx hb dX0_lineAt_26 (by decide +kernel) ?_
      exact W.iret (v := -1) hx hb hret (fun t ht hW => ⟨⟨-1, (), rfl, Or.inl ⟨Or.inr (Or.inl c_9), rfl⟩, ⟨by rw [ht]; exact hP, va_K.moved hW.alike hK, hD⟩⟩, hS.F ht⟩) hS.2.2 dX0_lineAt_27
    · obtain ⟨ii, hii, rfl⟩ := nI_of c_9
      refine lv_aload_n hx hb dX0_lineAt_12 rfl (lv_at hl 0 rfl) ?_
      refine lv_aload_n hx hb dX0_lineAt_13 rfl (lv_at hl 0 rfl) ?_
      refine gX_lineage hx hb hts hown hK hP dX0_lineAt_14 ?_
      refine lv_iload_n hx hb dX0_lineAt_17 rfl (lv_at hl 1 rfl) ?_
      refine lX_lineage hx hb hK hP (i := j) (by omega) dX0_lineAt_18 ?_
      refine lv_iload_n hx hb dX0_lineAt_19 rfl (lv_at hl 2 rfl) ?_
      refine cz_i (As := [.int (li j), .int (nI ii)]) (rest := []) ⟨hx, hb, hml, hown, hts⟩ (mX_find l D h0 h1 h2 h3 h4 h5 d1 d2 d3 d4 d5 T co ow tk N ba li dr (li j) ii hT hii) (cwV 2 hts (lw_V q72 q74 qs4 q11 q75) rfl rfl rfl (by decide +kernel) ⟨Nat.le_of_ble_eq_true rfl, Nat.le_of_ble_eq_true rfl⟩) hP hK hD hS hA (ci := 0) rfl rfl rfl rfl hl.1 rfl (Nat.le_of_ble_eq_true rfl) dX0_lineAt_20 ⟨Nat.zero_le _, Nat.zero_le _⟩ (fun r u H locs hr hP hD hS => ?_)
      have hr : r = fnd (pv ow tk (li j)) T ii := hr
      rcases fnd_cases (pv ow tk (li j)) T ii with ⟨q1, q2⟩ | ⟨k, hk, hp, he, hf⟩
      · have hr : r = -1 := hr.trans q2
        subst hr
        refine lv_goto (tgt := 27) hx hb dX0_lineAt_23 (by decide) ?_
        exact W.iret (v := -1) hx hb hret (fun t ht hW => ⟨⟨-1, (), rfl, Or.inl ⟨Or.inr (Or.inr ⟨j, hj, rfl, nI_le q1 hii⟩), rfl⟩, ⟨by rw [ht]; exact hP, va_K.moved hW.alike hK, hD⟩⟩, hS.F ht⟩) hS.2.2 dX0_lineAt_27
      · have hr : r = nI k := hr.trans hf
        subst hr
        refine lv_goto (tgt := 27) hx hb dX0_lineAt_23 (by decide) ?_
        exact W.iret (v := nI k) hx hb hret (fun t ht hW => ⟨⟨nI k, (), rfl, Or.inr ⟨j, k, hj, rfl, hk, hp, congrArg nI he.symm, rfl⟩, ⟨by rw [ht]; exact hP, va_K.moved hW.alike hK, hD⟩⟩, hS.F ht⟩) hS.2.2 dX0_lineAt_27
set_option maxHeartbeats 4000000 in
set_option maxRecDepth 100000 in
theorem mX_line (l : Launch) (D : va_G) (h0 h1 h2 h3 h4 h5 : Nat) (d1 d2 d3 d4 d5 : ClassId) (T : Nat) (co : Nat → Int32) (ow : Nat → Int32) (tk : Nat → Int32) (N : Nat) (ba : Nat → Int32) (li : Nat → Int32) (dr : Int32) (v i : Int32) (hT : T ≤ 30) (hN : N ≤ 12) : MetI l yX0_line (ws_ yX0_line cX0_line 4 (some .int)) zr3 D (TYX d1 d2 d3 d4 d5) [.ref h0, .int v, .int i] (XW h0 h1 h2 h3 h4 h5 d1 d2 d3 d4 d5 T co ow tk N ba li dr) (fun r (_ : Unit) => xatP N T (fun j => pv ow tk (li j)) v i r (-1) co) (fun _ : Unit => XW h0 h1 h2 h3 h4 h5 d1 d2 d3 d4 d5 T co ow tk N ba li dr) := by
  intro sz
  refine Met.ofW (cc := cX0_line) (maxL := 4) (ret := some .int) (by decide) rfl ?_
  intro p e s m args below meth c s₁ B hml hv
  obtain ⟨rfl, hsz, hP, hK, hD0⟩ := hv
  have hx := B.exec
  have hb := B.bytes
  have hret := B.returns
  have hts := atoms_spec (ws := ws_ yX0_line cX0_line 4 (some .int)) B.pre
  have hts : ∀ w ∈ lw_all, w.before _ s = true := fun w h => hts w (List.mem_cons_of_mem _ h)
  have hown : s.vm.findClass RX0 = some m.cls := findClass_of_methodNamed B.named
  have hlocks := B.notSynchronized
  subst hsz
  have hD := hD0.self (sz := s.heap.size)
  generalize hAe : va_A (XW h0 h1 h2 h3 h4 h5 d1 d2 d3 d4 d5 T co ow tk N ba li dr) s.heap.size = A at hD ⊢
  have hA : ∀ q : Nat, s.heap.size ≤ q → A q := fun q h => by rw [← hAe]; exact Or.inr h
  have hS : va_S A s.heap s.heap [] := va_S.rf
  have hl := lv_entry ([.ref h0, .int v, .int i]) (n := 4) (Nat.le_of_ble_eq_true rfl)
  rw [lg_entry_eq]
  generalize (lg_sl ([.ref h0, .int v, .int i]) ++ List.replicate (4 - (lg_sl ([.ref h0, .int v, .int i])).length) Slot.unset).toArray = ls at hl ⊢
  have hl : lv_has ls 4 [(0, .ref h0), (1, .int v), (2, .int i)] := hl
  refine lv_aload_n hx hb dX0_line_0 rfl (lv_at hl 0 rfl) ?_
  refine lv_iload_n hx hb dX0_line_1 rfl (lv_at hl 1 rfl) ?_
  refine lv_iload_n hx hb dX0_line_2 rfl (lv_at hl 2 rfl) ?_
  refine cz_i (As := [.int v, .int i]) (rest := []) ⟨hx, hb, hml, hown, hts⟩ (mX_lineAt l D h0 h1 h2 h3 h4 h5 d1 d2 d3 d4 d5 T co ow tk N ba li dr v i hT hN) (cwV 2 hts (lw_V q104 q106 qs6 q11 q107) rfl rfl rfl (by decide +kernel) ⟨Nat.le_of_ble_eq_true rfl, Nat.le_of_ble_eq_true rfl⟩) hP hK hD hS hA (ci := 0) rfl rfl rfl rfl hl.1 rfl (Nat.le_of_ble_eq_true rfl) dX0_line_3 ⟨Nat.zero_le _, Nat.zero_le _⟩ (fun r u H locs hr hP hD hS => ?_)
  have hr : xatP N T (fun j => pv ow tk (li j)) v i r (-1) (fun k => nI k) := hr
  rcases hr with ⟨hno, hr⟩ | ⟨j, k, hj, hv, hk, hp, hi, hr⟩
  · subst hr
    refine lv_istore_n (lv' := [(3, .int (-1)), (0, .ref h0), (1, .int v), (2, .int i)]) hx hb dX0_line_6 rfl hl (by decide) rfl (fun ls hl => ?_)
    refine lv_iload_n hx hb dX0_line_7 rfl (lv_at hl 0 rfl) ?_
    refine wz_m_ge (tgt := 15) hx hb dX0_line_8 (by decide) ?_
    refine lv_iconst (v := -1) hx hb dX0_line_11 (by decide +kernel) ?_
    refine lv_goto (tgt := 21) hx hb dX0_line_12 (by decide) ?_
    exact W.iret (v := -1) hx hb hret (fun t ht hW => ⟨⟨-1, (), rfl, Or.inl ⟨hno, rfl⟩, ⟨by rw [ht]; exact hP, va_K.moved hW.alike hK, hD⟩⟩, hS.F ht⟩) hS.2.2 dX0_line_21
  · have hr : r = nI k := hr
    subst hr
    refine lv_istore_n (lv' := [(3, .int (nI k)), (0, .ref h0), (1, .int v), (2, .int i)]) hx hb dX0_line_6 rfl hl (by decide) rfl (fun ls hl => ?_)
    refine lv_iload_n hx hb dX0_line_7 rfl (lv_at hl 0 rfl) ?_
    refine wz_n_ge (tgt := 15) hx hb (by omega) dX0_line_8 (by decide) ?_
    refine lv_aload_n hx hb dX0_line_15 rfl (lv_at hl 1 rfl) ?_
    refine gX_contents hx hb hts hown hK hP dX0_line_16 ?_
    refine lv_iload_n hx hb dX0_line_19 rfl (lv_at hl 0 rfl) ?_
    refine lX_contents hx hb hK hP (i := k) (by omega) dX0_line_20 ?_
    exact W.iret (v := co k) hx hb hret (fun t ht hW => ⟨⟨co k, (), rfl, Or.inr ⟨j, k, hj, hv, hk, hp, hi, rfl⟩, ⟨by rw [ht]; exact hP, va_K.moved hW.alike hK, hD⟩⟩, hS.F ht⟩) hS.2.2 dX0_line_21
set_option maxHeartbeats 4000000 in
set_option maxRecDepth 100000 in
theorem mX_origin (l : Launch) (D : va_G) (h0 h1 h2 h3 h4 h5 : Nat) (d1 d2 d3 d4 d5 : ClassId) (T : Nat) (co : Nat → Int32) (ow : Nat → Int32) (tk : Nat → Int32) (N : Nat) (ba : Nat → Int32) (li : Nat → Int32) (dr : Int32) (v i : Int32) (hT : T ≤ 30) (hN : N ≤ 12) : MetI l yX0_origin (ws_ yX0_origin cX0_origin 4 (some .int)) zr3 D (TYX d1 d2 d3 d4 d5) [.ref h0, .int v, .int i] (XW h0 h1 h2 h3 h4 h5 d1 d2 d3 d4 d5 T co ow tk N ba li dr) (fun r (_ : Unit) => xatP N T (fun j => pv ow tk (li j)) v i r (-1) ow) (fun _ : Unit => XW h0 h1 h2 h3 h4 h5 d1 d2 d3 d4 d5 T co ow tk N ba li dr) := by
  intro sz
  refine Met.ofW (cc := cX0_origin) (maxL := 4) (ret := some .int) (by decide) rfl ?_
  intro p e s m args below meth c s₁ B hml hv
  obtain ⟨rfl, hsz, hP, hK, hD0⟩ := hv
  have hx := B.exec
  have hb := B.bytes
  have hret := B.returns
  have hts := atoms_spec (ws := ws_ yX0_origin cX0_origin 4 (some .int)) B.pre
  have hts : ∀ w ∈ lw_all, w.before _ s = true := fun w h => hts w (List.mem_cons_of_mem _ h)
  have hown : s.vm.findClass RX0 = some m.cls := findClass_of_methodNamed B.named
  have hlocks := B.notSynchronized
  subst hsz
  have hD := hD0.self (sz := s.heap.size)
  generalize hAe : va_A (XW h0 h1 h2 h3 h4 h5 d1 d2 d3 d4 d5 T co ow tk N ba li dr) s.heap.size = A at hD ⊢
  have hA : ∀ q : Nat, s.heap.size ≤ q → A q := fun q h => by rw [← hAe]; exact Or.inr h
  have hS : va_S A s.heap s.heap [] := va_S.rf
  have hl := lv_entry ([.ref h0, .int v, .int i]) (n := 4) (Nat.le_of_ble_eq_true rfl)
  rw [lg_entry_eq]
  generalize (lg_sl ([.ref h0, .int v, .int i]) ++ List.replicate (4 - (lg_sl ([.ref h0, .int v, .int i])).length) Slot.unset).toArray = ls at hl ⊢
  have hl : lv_has ls 4 [(0, .ref h0), (1, .int v), (2, .int i)] := hl
  refine lv_aload_n hx hb dX0_origin_0 rfl (lv_at hl 0 rfl) ?_
  refine lv_iload_n hx hb dX0_origin_1 rfl (lv_at hl 1 rfl) ?_
  refine lv_iload_n hx hb dX0_origin_2 rfl (lv_at hl 2 rfl) ?_
  refine cz_i (As := [.int v, .int i]) (rest := []) ⟨hx, hb, hml, hown, hts⟩ (mX_lineAt l D h0 h1 h2 h3 h4 h5 d1 d2 d3 d4 d5 T co ow tk N ba li dr v i hT hN) (cwV 2 hts (lw_V q104 q106 qs6 q11 q107) rfl rfl rfl (by decide +kernel) ⟨Nat.le_of_ble_eq_true rfl, Nat.le_of_ble_eq_true rfl⟩) hP hK hD hS hA (ci := 0) rfl rfl rfl rfl hl.1 rfl (Nat.le_of_ble_eq_true rfl) dX0_origin_3 ⟨Nat.zero_le _, Nat.zero_le _⟩ (fun r u H locs hr hP hD hS => ?_)
  have hr : xatP N T (fun j => pv ow tk (li j)) v i r (-1) (fun k => nI k) := hr
  rcases hr with ⟨hno, hr⟩ | ⟨j, k, hj, hv, hk, hp, hi, hr⟩
  · subst hr
    refine lv_istore_n (lv' := [(3, .int (-1)), (0, .ref h0), (1, .int v), (2, .int i)]) hx hb dX0_origin_6 rfl hl (by decide) rfl (fun ls hl => ?_)
    refine lv_iload_n hx hb dX0_origin_7 rfl (lv_at hl 0 rfl) ?_
    refine wz_m_ge (tgt := 15) hx hb dX0_origin_8 (by decide) ?_
    refine lv_iconst (v := -1) hx hb dX0_origin_11 (by decide +kernel) ?_
    refine lv_goto (tgt := 21) hx hb dX0_origin_12 (by decide) ?_
    exact W.iret (v := -1) hx hb hret (fun t ht hW => ⟨⟨-1, (), rfl, Or.inl ⟨hno, rfl⟩, ⟨by rw [ht]; exact hP, va_K.moved hW.alike hK, hD⟩⟩, hS.F ht⟩) hS.2.2 dX0_origin_21
  · have hr : r = nI k := hr
    subst hr
    refine lv_istore_n (lv' := [(3, .int (nI k)), (0, .ref h0), (1, .int v), (2, .int i)]) hx hb dX0_origin_6 rfl hl (by decide) rfl (fun ls hl => ?_)
    refine lv_iload_n hx hb dX0_origin_7 rfl (lv_at hl 0 rfl) ?_
    refine wz_n_ge (tgt := 15) hx hb (by omega) dX0_origin_8 (by decide) ?_
    refine lv_aload_n hx hb dX0_origin_15 rfl (lv_at hl 1 rfl) ?_
    refine gX_owners hx hb hts hown hK hP dX0_origin_16 ?_
    refine lv_iload_n hx hb dX0_origin_19 rfl (lv_at hl 0 rfl) ?_
    refine lX_owners hx hb hK hP (i := k) (by omega) dX0_origin_20 ?_
    exact W.iret (v := ow k) hx hb hret (fun t ht hW => ⟨⟨ow k, (), rfl, Or.inr ⟨j, k, hj, hv, hk, hp, hi, rfl⟩, ⟨by rw [ht]; exact hP, va_K.moved hW.alike hK, hD⟩⟩, hS.F ht⟩) hS.2.2 dX0_origin_21
set_option maxHeartbeats 4000000 in
set_option maxRecDepth 100000 in
theorem lpX_shared {p : Program} {l : Launch} {e : Env} {R : Room} {s : State} {m : MethodId} {args : Array Value} {below : List Frame} {meth : Method} {c : Code} {Q : State → Prop} {D : va_G} {A : Nat → Prop} {h0 h1 h2 h3 h4 h5 : Nat} {d1 d2 d3 d4 d5 : ClassId} {T : Nat} {co : Nat → Int32} {ow : Nat → Int32} {tk : Nat → Int32} {N : Nat} {ba : Nat → Int32} {li : Nat → Int32} {dr : Int32} (hx : p.tables.exec = Jvm.exec) (hb : c.code = cX0_shared) (hml : c.maxLocals = 5) (hown : s.vm.findClass RX0 = some m.cls) (hts : ∀ w ∈ lw_all, w.before args s = true) (hA : ∀ q : Nat, s.heap.size ≤ q → A q) (hK : va_K D vwCl (TYX d1 d2 d3 d4 d5) s) (hR : 1 ≤ R.frames ∧ 30 ≤ R.locals) (j j2 : Nat) (hT : T ≤ 30) (hj : j < 13) (hj2 : j2 < 13) (hk : ∀ (H : Heap) (locs : List Loc), va_P D vwCl (XW h0 h1 h2 h3 h4 h5 d1 d2 d3 d4 d5 T co ow tk N ba li dr) H → va_D A (XW h0 h1 h2 h3 h4 h5 d1 d2 d3 d4 d5 T co ow tk N ba li dr) → va_S A s.heap H locs → ∀ ls : Array Slot, lv_has ls 5 [(3, .int (nI (cnt (fun k => pv ow tk (li j) k && pv ow tk (li j2) k) T)))] → W p l e R s m args below meth c H locs 0 0 Q (F0 m 76 ls [])) : ∀ (n i : Nat), i ≤ T → T + 1 ≤ i + n → ∀ (H : Heap) (locs : List Loc), va_P D vwCl (XW h0 h1 h2 h3 h4 h5 d1 d2 d3 d4 d5 T co ow tk N ba li dr) H → va_D A (XW h0 h1 h2 h3 h4 h5 d1 d2 d3 d4 d5 T co ow tk N ba li dr) → va_S A s.heap H locs → ∀ ls : Array Slot, lv_has ls 5 [(0, .ref h0), (1, .int (nI j)), (2, .int (nI j2)), (3, .int (nI (cnt (fun k => pv ow tk (li j) k && pv ow tk (li j2) k) i))), (4, .int (nI i))] → W p l e R s m args below meth c H locs 0 0 Q (F0 m 23 ls []) := by
  intro n
  induction n with
  | zero =>
    intro i h1 h2
    exact absurd h2 (by omega)
  | succ n ih =>
    intro i hi hn H locs hP hD hS ls hl
    refine lv_iload hx hb dX0_shared_23 (lv_at hl 4 rfl) ?_
    refine lv_aload_n hx hb dX0_shared_25 rfl (lv_at hl 0 rfl) ?_
    refine gX_total hx hb hts hown hK hP dX0_shared_26 ?_
    refine wz_ge (tgt := 76) hx hb (by omega) (by omega) dX0_shared_29 (by decide) (fun c_29 => ?_) (fun c_29 => ?_)
    · rw [show i = T from by omega] at hl
      exact hk _ _ hP hD hS ls (lv_sub hl [3] rfl)
    · refine lv_iload_n hx hb dX0_shared_32 rfl (lv_at hl 3 rfl) ?_
      refine lv_aload_n hx hb dX0_shared_33 rfl (lv_at hl 0 rfl) ?_
      refine lv_iload hx hb dX0_shared_34 (lv_at hl 4 rfl) ?_
      refine lv_aload_n hx hb dX0_shared_36 rfl (lv_at hl 0 rfl) ?_
      refine gX_lineage hx hb hts hown hK hP dX0_shared_37 ?_
      refine lv_iload_n hx hb dX0_shared_40 rfl (lv_at hl 1 rfl) ?_
      refine lX_lineage hx hb hK hP (i := j) (by omega) dX0_shared_41 ?_
      refine cz_i (As := [.int (nI i), .int (li j)]) (rest := [.int (nI (cnt (fun k => pv ow tk (li j) k && pv ow tk (li j2) k) i))]) ⟨hx, hb, hml, hown, hts⟩ (mX_shows l D h0 h1 h2 h3 h4 h5 d1 d2 d3 d4 d5 T co ow tk N ba li dr i (li j) (by omega)) (cwV 2 hts (lw_V q64 q66 qs3 q11 q67) rfl rfl rfl (by decide +kernel) ⟨Nat.le_trans (Nat.le_of_ble_eq_true rfl) hR.1, Nat.le_trans (Nat.le_of_ble_eq_true rfl) hR.2⟩) hP hK hD hS hA (ci := 0) rfl rfl rfl rfl hl.1 rfl (Nat.le_of_ble_eq_true rfl) dX0_shared_42 ⟨Nat.zero_le _, Nat.zero_le _⟩ (fun r u H locs hr hP hD hS => ?_)
      have hr : r = bI (sh (ow i) (tk i) (li j)) := hr
      subst hr
      refine wz_b_eq (tgt := 67) hx hb dX0_shared_45 (by decide) (fun c_45 => ?_) (fun c_45 => ?_)
      · refine lv_iconst (v := nI 0) hx hb dX0_shared_67 (by decide +kernel) ?_
        refine wz_iadd hx hb dX0_shared_68 ?_
        refine wz_top (x := nI ((cnt (fun k => pv ow tk (li j) k && pv ow tk (li j2) k) i) + 0)) (y := nI (cnt (fun k => pv ow tk (li j) k && pv ow tk (li j2) k) (i + 1))) (congrArg nI (cnt_f (p := fun k => pv ow tk (li j) k && pv ow tk (li j2) k) (n := i) (and_f1 c_45)).symm) ?_
        refine lv_istore_n (lv' := [(3, .int (nI (cnt (fun k => pv ow tk (li j) k && pv ow tk (li j2) k) (i + 1)))), (0, .ref h0), (1, .int (nI j)), (2, .int (nI j2)), (4, .int (nI i))]) hx hb dX0_shared_69 rfl hl (by decide) rfl (fun ls hl => ?_)
        refine lv_iinc (v := nI (i + 1)) (lv' := [(4, .int (nI (i + 1))), (3, .int (nI (cnt (fun k => pv ow tk (li j) k && pv ow tk (li j2) k) (i + 1)))), (0, .ref h0), (1, .int (nI j)), (2, .int (nI j2))]) hx hb dX0_shared_70 hl (k := 4) rfl (wz_inc1 i) (by decide) rfl (fun ls hl => ?_)
        refine lv_goto (tgt := 23) hx hb dX0_shared_73 (by decide) ?_
        exact ih (i + 1) (by omega) (by omega) _ _ hP hD hS ls (lv_sub hl [2, 3, 4, 1, 0] rfl)
      · refine lv_aload_n hx hb dX0_shared_48 rfl (lv_at hl 0 rfl) ?_
        refine lv_iload hx hb dX0_shared_49 (lv_at hl 4 rfl) ?_
        refine lv_aload_n hx hb dX0_shared_51 rfl (lv_at hl 0 rfl) ?_
        refine gX_lineage hx hb hts hown hK hP dX0_shared_52 ?_
        refine lv_iload_n hx hb dX0_shared_55 rfl (lv_at hl 2 rfl) ?_
        refine lX_lineage hx hb hK hP (i := j2) (by omega) dX0_shared_56 ?_
        refine cz_i (As := [.int (nI i), .int (li j2)]) (rest := [.int (nI (cnt (fun k => pv ow tk (li j) k && pv ow tk (li j2) k) i))]) ⟨hx, hb, hml, hown, hts⟩ (mX_shows l D h0 h1 h2 h3 h4 h5 d1 d2 d3 d4 d5 T co ow tk N ba li dr i (li j2) (by omega)) (cwV 2 hts (lw_V q64 q66 qs3 q11 q67) rfl rfl rfl (by decide +kernel) ⟨Nat.le_trans (Nat.le_of_ble_eq_true rfl) hR.1, Nat.le_trans (Nat.le_of_ble_eq_true rfl) hR.2⟩) hP hK hD hS hA (ci := 0) rfl rfl rfl rfl hl.1 rfl (Nat.le_of_ble_eq_true rfl) dX0_shared_57 ⟨Nat.zero_le _, Nat.zero_le _⟩ (fun r u H locs hr hP hD hS => ?_)
        have hr : r = bI (sh (ow i) (tk i) (li j2)) := hr
        subst hr
        refine wz_b_eq (tgt := 67) hx hb dX0_shared_60 (by decide) (fun c_60 => ?_) (fun c_60 => ?_)
        · refine lv_iconst (v := nI 0) hx hb dX0_shared_67 (by decide +kernel) ?_
          refine wz_iadd hx hb dX0_shared_68 ?_
          refine wz_top (x := nI ((cnt (fun k => pv ow tk (li j) k && pv ow tk (li j2) k) i) + 0)) (y := nI (cnt (fun k => pv ow tk (li j) k && pv ow tk (li j2) k) (i + 1))) (congrArg nI (cnt_f (p := fun k => pv ow tk (li j) k && pv ow tk (li j2) k) (n := i) (and_f2 c_60)).symm) ?_
          refine lv_istore_n (lv' := [(3, .int (nI (cnt (fun k => pv ow tk (li j) k && pv ow tk (li j2) k) (i + 1)))), (0, .ref h0), (1, .int (nI j)), (2, .int (nI j2)), (4, .int (nI i))]) hx hb dX0_shared_69 rfl hl (by decide) rfl (fun ls hl => ?_)
          refine lv_iinc (v := nI (i + 1)) (lv' := [(4, .int (nI (i + 1))), (3, .int (nI (cnt (fun k => pv ow tk (li j) k && pv ow tk (li j2) k) (i + 1)))), (0, .ref h0), (1, .int (nI j)), (2, .int (nI j2))]) hx hb dX0_shared_70 hl (k := 4) rfl (wz_inc1 i) (by decide) rfl (fun ls hl => ?_)
          refine lv_goto (tgt := 23) hx hb dX0_shared_73 (by decide) ?_
          exact ih (i + 1) (by omega) (by omega) _ _ hP hD hS ls (lv_sub hl [2, 3, 4, 1, 0] rfl)
        · refine lv_iconst (v := nI 1) hx hb dX0_shared_63 (by decide +kernel) ?_
          refine lv_goto (tgt := 68) hx hb dX0_shared_64 (by decide) ?_
          refine wz_iadd hx hb dX0_shared_68 ?_
          refine wz_top (x := nI ((cnt (fun k => pv ow tk (li j) k && pv ow tk (li j2) k) i) + 1)) (y := nI (cnt (fun k => pv ow tk (li j) k && pv ow tk (li j2) k) (i + 1))) (congrArg nI (cnt_t (p := fun k => pv ow tk (li j) k && pv ow tk (li j2) k) (n := i) (and_t c_45 c_60)).symm) ?_
          refine lv_istore_n (lv' := [(3, .int (nI (cnt (fun k => pv ow tk (li j) k && pv ow tk (li j2) k) (i + 1)))), (0, .ref h0), (1, .int (nI j)), (2, .int (nI j2)), (4, .int (nI i))]) hx hb dX0_shared_69 rfl hl (by decide) rfl (fun ls hl => ?_)
          refine lv_iinc (v := nI (i + 1)) (lv' := [(4, .int (nI (i + 1))), (3, .int (nI (cnt (fun k => pv ow tk (li j) k && pv ow tk (li j2) k) (i + 1)))), (0, .ref h0), (1, .int (nI j)), (2, .int (nI j2))]) hx hb dX0_shared_70 hl (k := 4) rfl (wz_inc1 i) (by decide) rfl (fun ls hl => ?_)
          refine lv_goto (tgt := 23) hx hb dX0_shared_73 (by decide) ?_
          exact ih (i + 1) (by omega) (by omega) _ _ hP hD hS ls (lv_sub hl [2, 3, 4, 1, 0] rfl)
set_option maxHeartbeats 4000000 in
set_option maxRecDepth 100000 in
theorem mX_shared (l : Launch) (D : va_G) (h0 h1 h2 h3 h4 h5 : Nat) (d1 d2 d3 d4 d5 : ClassId) (T : Nat) (co : Nat → Int32) (ow : Nat → Int32) (tk : Nat → Int32) (N : Nat) (ba : Nat → Int32) (li : Nat → Int32) (dr : Int32) (v w : Int32) (hT : T ≤ 30) (hN : N ≤ 12) : MetI l yX0_shared (ws_ yX0_shared cX0_shared 5 (some .int)) zr1 D (TYX d1 d2 d3 d4 d5) [.ref h0, .int v, .int w] (XW h0 h1 h2 h3 h4 h5 d1 d2 d3 d4 d5 T co ow tk N ba li dr) (fun r (_ : Unit) => ver2P N v w r (fun j j2 => nI (cnt (fun k => pv ow tk (li j) k && pv ow tk (li j2) k) T))) (fun _ : Unit => XW h0 h1 h2 h3 h4 h5 d1 d2 d3 d4 d5 T co ow tk N ba li dr) := by
  intro sz
  refine Met.ofW (cc := cX0_shared) (maxL := 5) (ret := some .int) (by decide) rfl ?_
  intro p e s m args below meth c s₁ B hml hv
  obtain ⟨rfl, hsz, hP, hK, hD0⟩ := hv
  have hx := B.exec
  have hb := B.bytes
  have hret := B.returns
  have hts := atoms_spec (ws := ws_ yX0_shared cX0_shared 5 (some .int)) B.pre
  have hts : ∀ w ∈ lw_all, w.before _ s = true := fun w h => hts w (List.mem_cons_of_mem _ h)
  have hown : s.vm.findClass RX0 = some m.cls := findClass_of_methodNamed B.named
  have hlocks := B.notSynchronized
  subst hsz
  have hD := hD0.self (sz := s.heap.size)
  generalize hAe : va_A (XW h0 h1 h2 h3 h4 h5 d1 d2 d3 d4 d5 T co ow tk N ba li dr) s.heap.size = A at hD ⊢
  have hA : ∀ q : Nat, s.heap.size ≤ q → A q := fun q h => by rw [← hAe]; exact Or.inr h
  have hS : va_S A s.heap s.heap [] := va_S.rf
  have hl := lv_entry ([.ref h0, .int v, .int w]) (n := 5) (Nat.le_of_ble_eq_true rfl)
  rw [lg_entry_eq]
  generalize (lg_sl ([.ref h0, .int v, .int w]) ++ List.replicate (5 - (lg_sl ([.ref h0, .int v, .int w])).length) Slot.unset).toArray = ls at hl ⊢
  have hl : lv_has ls 5 [(0, .ref h0), (1, .int v), (2, .int w)] := hl
  refine lv_aload_n hx hb dX0_shared_0 rfl (lv_at hl 0 rfl) ?_
  refine lv_iload_n hx hb dX0_shared_1 rfl (lv_at hl 1 rfl) ?_
  refine cz_i (As := [.int v]) (rest := []) ⟨hx, hb, hml, hown, hts⟩ (mX_isVersion l D h0 h1 h2 h3 h4 h5 d1 d2 d3 d4 d5 T co ow tk N ba li dr v (by omega)) (cwV 1 hts (lw_V q52 q54 qs0 q11 q55) rfl rfl rfl (by decide +kernel) ⟨Nat.le_of_ble_eq_true rfl, Nat.le_of_ble_eq_true rfl⟩) hP hK hD hS hA (ci := 0) rfl rfl rfl rfl hl.1 rfl (Nat.le_of_ble_eq_true rfl) dX0_shared_2 ⟨Nat.zero_le _, Nat.zero_le _⟩ (fun r u H locs hr hP hD hS => ?_)
  have hr : r = bI (vOk N v) := hr
  subst hr
  refine wz_b_eq (tgt := 16) hx hb dX0_shared_5 (by decide) (fun c_5 => ?_) (fun c_5 => ?_)
  · refine lv_iconst (v := -1) hx hb dX0_shared_16 (by decide +kernel) ?_
    exact W.iret (v := -1) hx hb hret (fun t ht hW => ⟨⟨-1, (), rfl, Or.inl ⟨Or.inl c_5, rfl⟩, ⟨by rw [ht]; exact hP, va_K.moved hW.alike hK, hD⟩⟩, hS.F ht⟩) hS.2.2 dX0_shared_17
  · obtain ⟨j, hj, rfl⟩ := vOk_of (by omega) c_5
    refine lv_aload_n hx hb dX0_shared_8 rfl (lv_at hl 0 rfl) ?_
    refine lv_iload_n hx hb dX0_shared_9 rfl (lv_at hl 2 rfl) ?_
    refine cz_i (As := [.int w]) (rest := []) ⟨hx, hb, hml, hown, hts⟩ (mX_isVersion l D h0 h1 h2 h3 h4 h5 d1 d2 d3 d4 d5 T co ow tk N ba li dr w (by omega)) (cwV 1 hts (lw_V q52 q54 qs0 q11 q55) rfl rfl rfl (by decide +kernel) ⟨Nat.le_of_ble_eq_true rfl, Nat.le_of_ble_eq_true rfl⟩) hP hK hD hS hA (ci := 0) rfl rfl rfl rfl hl.1 rfl (Nat.le_of_ble_eq_true rfl) dX0_shared_10 ⟨Nat.zero_le _, Nat.zero_le _⟩ (fun r u H locs hr hP hD hS => ?_)
    have hr : r = bI (vOk N w) := hr
    subst hr
    refine wz_b_ne (tgt := 18) hx hb dX0_shared_13 (by decide) (fun c_13 => ?_) (fun c_13 => ?_)
    · obtain ⟨j2, hj2, rfl⟩ := vOk_of (by omega) c_13
      refine lv_iconst (v := nI 0) hx hb dX0_shared_18 (by decide +kernel) ?_
      refine lv_istore_n (lv' := [(3, .int (nI 0)), (0, .ref h0), (1, .int (nI j)), (2, .int (nI j2))]) hx hb dX0_shared_19 rfl hl (by decide) rfl (fun ls hl => ?_)
      refine lv_iconst (v := nI 0) hx hb dX0_shared_20 (by decide +kernel) ?_
      refine lv_istore (lv' := [(4, .int (nI 0)), (3, .int (nI 0)), (0, .ref h0), (1, .int (nI j)), (2, .int (nI j2))]) hx hb dX0_shared_21 hl (by decide) rfl (fun ls hl => ?_)
      refine lpX_shared hx hb hml hown hts hA hK ⟨Nat.le_of_ble_eq_true rfl, Nat.le_of_ble_eq_true rfl⟩ j j2 hT (by omega) (by omega) (fun H locs hP hD hS ls hl => ?_) (T + 1) 0 (Nat.zero_le T) (by omega) _ _ hP hD hS ls (lv_sub hl [2, 3, 4, 1, 0] rfl)
      refine lv_iload_n hx hb dX0_shared_76 rfl (lv_at hl 0 rfl) ?_
      exact W.iret (v := nI (cnt (fun k => pv ow tk (li j) k && pv ow tk (li j2) k) T)) hx hb hret (fun t ht hW => ⟨⟨nI (cnt (fun k => pv ow tk (li j) k && pv ow tk (li j2) k) T), (), rfl, Or.inr ⟨j, j2, hj, rfl, hj2, rfl, rfl⟩, ⟨by rw [ht]; exact hP, va_K.moved hW.alike hK, hD⟩⟩, hS.F ht⟩) hS.2.2 dX0_shared_77
    · refine lv_iconst (v := -1) hx hb dX0_shared_16 (by decide +kernel) ?_
      exact W.iret (v := -1) hx hb hret (fun t ht hW => ⟨⟨-1, (), rfl, Or.inl ⟨Or.inr c_13, rfl⟩, ⟨by rw [ht]; exact hP, va_K.moved hW.alike hK, hD⟩⟩, hS.F ht⟩) hS.2.2 dX0_shared_17
set_option maxHeartbeats 4000000 in
set_option maxRecDepth 100000 in
theorem lpX_placeIn {p : Program} {l : Launch} {e : Env} {R : Room} {s : State} {m : MethodId} {args : Array Value} {below : List Frame} {meth : Method} {c : Code} {Q : State → Prop} {D : va_G} {A : Nat → Prop} {h0 h1 h2 h3 h4 h5 : Nat} {d1 d2 d3 d4 d5 : ClassId} {T : Nat} {co : Nat → Int32} {ow : Nat → Int32} {tk : Nat → Int32} {N : Nat} {ba : Nat → Int32} {li : Nat → Int32} {dr : Int32} (hx : p.tables.exec = Jvm.exec) (hb : c.code = cX0_placeIn) (hml : c.maxLocals = 7) (hown : s.vm.findClass RX0 = some m.cls) (hts : ∀ w ∈ lw_all, w.before args s = true) (hA : ∀ q : Nat, s.heap.size ≤ q → A q) (hK : va_K D vwCl (TYX d1 d2 d3 d4 d5) s) (hR : 1 ≤ R.frames ∧ 30 ≤ R.locals) (j2 k : Nat) (hj2 : j2 < 13) (hk30 : k < 30) (hk : ∀ (H : Heap) (locs : List Loc), va_P D vwCl (XW h0 h1 h2 h3 h4 h5 d1 d2 d3 d4 d5 T co ow tk N ba li dr) H → va_D A (XW h0 h1 h2 h3 h4 h5 d1 d2 d3 d4 d5 T co ow tk N ba li dr) → va_S A s.heap H locs → ∀ ls : Array Slot, lv_has ls 7 [(5, .int (nI (cnt (pv ow tk (li j2)) k)))] → W p l e R s m args below meth c H locs 0 0 Q (F0 m 82 ls [])) : ∀ (n i : Nat), i ≤ k → k + 1 ≤ i + n → ∀ (H : Heap) (locs : List Loc), va_P D vwCl (XW h0 h1 h2 h3 h4 h5 d1 d2 d3 d4 d5 T co ow tk N ba li dr) H → va_D A (XW h0 h1 h2 h3 h4 h5 d1 d2 d3 d4 d5 T co ow tk N ba li dr) → va_S A s.heap H locs → ∀ ls : Array Slot, lv_has ls 7 [(0, .ref h0), (3, .int (nI j2)), (4, .int (nI k)), (5, .int (nI (cnt (pv ow tk (li j2)) i))), (6, .int (nI i))] → W p l e R s m args below meth c H locs 0 0 Q (F0 m 44 ls []) := by
  intro n
  induction n with
  | zero =>
    intro i h1 h2
    exact absurd h2 (by omega)
  | succ n ih =>
    intro i hi hn H locs hP hD hS ls hl
    refine lv_iload hx hb dX0_placeIn_44 (lv_at hl 4 rfl) ?_
    refine lv_iload hx hb dX0_placeIn_46 (lv_at hl 2 rfl) ?_
    refine wz_ge (tgt := 82) hx hb (by omega) (by omega) dX0_placeIn_48 (by decide) (fun c_48 => ?_) (fun c_48 => ?_)
    · rw [show i = k from by omega] at hl
      exact hk _ _ hP hD hS ls (lv_sub hl [3] rfl)
    · refine lv_iload hx hb dX0_placeIn_51 (lv_at hl 3 rfl) ?_
      refine lv_aload_n hx hb dX0_placeIn_53 rfl (lv_at hl 0 rfl) ?_
      refine lv_iload hx hb dX0_placeIn_54 (lv_at hl 4 rfl) ?_
      refine lv_aload_n hx hb dX0_placeIn_56 rfl (lv_at hl 0 rfl) ?_
      refine gX_lineage hx hb hts hown hK hP dX0_placeIn_57 ?_
      refine lv_iload_n hx hb dX0_placeIn_60 rfl (lv_at hl 1 rfl) ?_
      refine lX_lineage hx hb hK hP (i := j2) (by omega) dX0_placeIn_61 ?_
      refine cz_i (As := [.int (nI i), .int (li j2)]) (rest := [.int (nI (cnt (pv ow tk (li j2)) i))]) ⟨hx, hb, hml, hown, hts⟩ (mX_shows l D h0 h1 h2 h3 h4 h5 d1 d2 d3 d4 d5 T co ow tk N ba li dr i (li j2) (by omega)) (cwV 2 hts (lw_V q64 q66 qs3 q11 q67) rfl rfl rfl (by decide +kernel) ⟨Nat.le_trans (Nat.le_of_ble_eq_true rfl) hR.1, Nat.le_trans (Nat.le_of_ble_eq_true rfl) hR.2⟩) hP hK hD hS hA (ci := 0) rfl rfl rfl rfl hl.1 rfl (Nat.le_of_ble_eq_true rfl) dX0_placeIn_62 ⟨Nat.zero_le _, Nat.zero_le _⟩ (fun r u H locs hr hP hD hS => ?_)
      have hr : r = bI (sh (ow i) (tk i) (li j2)) := hr
      subst hr
      refine wz_b_eq (tgt := 72) hx hb dX0_placeIn_65 (by decide) (fun c_65 => ?_) (fun c_65 => ?_)
      · refine lv_iconst (v := nI 0) hx hb dX0_placeIn_72 (by decide +kernel) ?_
        refine wz_iadd hx hb dX0_placeIn_73 ?_
        refine wz_top (x := nI ((cnt (pv ow tk (li j2)) i) + 0)) (y := nI (cnt (pv ow tk (li j2)) (i + 1))) (congrArg nI (cnt_f (p := pv ow tk (li j2)) (n := i) c_65).symm) ?_
        refine lv_istore (lv' := [(5, .int (nI (cnt (pv ow tk (li j2)) (i + 1)))), (0, .ref h0), (3, .int (nI j2)), (4, .int (nI k)), (6, .int (nI i))]) hx hb dX0_placeIn_74 hl (by decide) rfl (fun ls hl => ?_)
        refine lv_iinc (v := nI (i + 1)) (lv' := [(6, .int (nI (i + 1))), (5, .int (nI (cnt (pv ow tk (li j2)) (i + 1)))), (0, .ref h0), (3, .int (nI j2)), (4, .int (nI k))]) hx hb dX0_placeIn_76 hl (k := 4) rfl (wz_inc1 i) (by decide) rfl (fun ls hl => ?_)
        refine lv_goto (tgt := 44) hx hb dX0_placeIn_79 (by decide) ?_
        exact ih (i + 1) (by omega) (by omega) _ _ hP hD hS ls (lv_sub hl [2, 3, 4, 1, 0] rfl)
      · refine lv_iconst (v := nI 1) hx hb dX0_placeIn_68 (by decide +kernel) ?_
        refine lv_goto (tgt := 73) hx hb dX0_placeIn_69 (by decide) ?_
        refine wz_iadd hx hb dX0_placeIn_73 ?_
        refine wz_top (x := nI ((cnt (pv ow tk (li j2)) i) + 1)) (y := nI (cnt (pv ow tk (li j2)) (i + 1))) (congrArg nI (cnt_t (p := pv ow tk (li j2)) (n := i) c_65).symm) ?_
        refine lv_istore (lv' := [(5, .int (nI (cnt (pv ow tk (li j2)) (i + 1)))), (0, .ref h0), (3, .int (nI j2)), (4, .int (nI k)), (6, .int (nI i))]) hx hb dX0_placeIn_74 hl (by decide) rfl (fun ls hl => ?_)
        refine lv_iinc (v := nI (i + 1)) (lv' := [(6, .int (nI (i + 1))), (5, .int (nI (cnt (pv ow tk (li j2)) (i + 1)))), (0, .ref h0), (3, .int (nI j2)), (4, .int (nI k))]) hx hb dX0_placeIn_76 hl (k := 4) rfl (wz_inc1 i) (by decide) rfl (fun ls hl => ?_)
        refine lv_goto (tgt := 44) hx hb dX0_placeIn_79 (by decide) ?_
        exact ih (i + 1) (by omega) (by omega) _ _ hP hD hS ls (lv_sub hl [2, 3, 4, 1, 0] rfl)
set_option maxHeartbeats 4000000 in
set_option maxRecDepth 100000 in
theorem mX_placeIn (l : Launch) (D : va_G) (h0 h1 h2 h3 h4 h5 : Nat) (d1 d2 d3 d4 d5 : ClassId) (T : Nat) (co : Nat → Int32) (ow : Nat → Int32) (tk : Nat → Int32) (N : Nat) (ba : Nat → Int32) (li : Nat → Int32) (dr : Int32) (v i w : Int32) (hT : T ≤ 30) (hN : N ≤ 12) : MetI l yX0_placeIn (ws_ yX0_placeIn cX0_placeIn 7 (some .int)) zr3 D (TYX d1 d2 d3 d4 d5) [.ref h0, .int v, .int i, .int w] (XW h0 h1 h2 h3 h4 h5 d1 d2 d3 d4 d5 T co ow tk N ba li dr) (fun r (_ : Unit) => xatP N T (fun j => pv ow tk (li j)) v i r (-1) (xplF N (fun j => pv ow tk (li j)) w)) (fun _ : Unit => XW h0 h1 h2 h3 h4 h5 d1 d2 d3 d4 d5 T co ow tk N ba li dr) := by
  intro sz
  refine Met.ofW (cc := cX0_placeIn) (maxL := 7) (ret := some .int) (by decide) rfl ?_
  intro p e s m args below meth c s₁ B hml hv
  obtain ⟨rfl, hsz, hP, hK, hD0⟩ := hv
  have hx := B.exec
  have hb := B.bytes
  have hret := B.returns
  have hts := atoms_spec (ws := ws_ yX0_placeIn cX0_placeIn 7 (some .int)) B.pre
  have hts : ∀ w ∈ lw_all, w.before _ s = true := fun w h => hts w (List.mem_cons_of_mem _ h)
  have hown : s.vm.findClass RX0 = some m.cls := findClass_of_methodNamed B.named
  have hlocks := B.notSynchronized
  subst hsz
  have hD := hD0.self (sz := s.heap.size)
  generalize hAe : va_A (XW h0 h1 h2 h3 h4 h5 d1 d2 d3 d4 d5 T co ow tk N ba li dr) s.heap.size = A at hD ⊢
  have hA : ∀ q : Nat, s.heap.size ≤ q → A q := fun q h => by rw [← hAe]; exact Or.inr h
  have hS : va_S A s.heap s.heap [] := va_S.rf
  have hl := lv_entry ([.ref h0, .int v, .int i, .int w]) (n := 7) (Nat.le_of_ble_eq_true rfl)
  rw [lg_entry_eq]
  generalize (lg_sl ([.ref h0, .int v, .int i, .int w]) ++ List.replicate (7 - (lg_sl ([.ref h0, .int v, .int i, .int w])).length) Slot.unset).toArray = ls at hl ⊢
  have hl : lv_has ls 7 [(0, .ref h0), (1, .int v), (2, .int i), (3, .int w)] := hl
  refine lv_aload_n hx hb dX0_placeIn_0 rfl (lv_at hl 0 rfl) ?_
  refine lv_iload_n hx hb dX0_placeIn_1 rfl (lv_at hl 1 rfl) ?_
  refine lv_iload_n hx hb dX0_placeIn_2 rfl (lv_at hl 2 rfl) ?_
  refine cz_i (As := [.int v, .int i]) (rest := []) ⟨hx, hb, hml, hown, hts⟩ (mX_lineAt l D h0 h1 h2 h3 h4 h5 d1 d2 d3 d4 d5 T co ow tk N ba li dr v i hT hN) (cwV 2 hts (lw_V q104 q106 qs6 q11 q107) rfl rfl rfl (by decide +kernel) ⟨Nat.le_of_ble_eq_true rfl, Nat.le_of_ble_eq_true rfl⟩) hP hK hD hS hA (ci := 0) rfl rfl rfl rfl hl.1 rfl (Nat.le_of_ble_eq_true rfl) dX0_placeIn_3 ⟨Nat.zero_le _, Nat.zero_le _⟩ (fun r u H locs hr hP hD hS => ?_)
  have hr : xatP N T (fun j => pv ow tk (li j)) v i r (-1) (fun k => nI k) := hr
  rcases hr with ⟨hno, hr⟩ | ⟨j, k, hj, hv, hk, hp, hi, hr⟩
  · subst hr
    refine lv_istore (lv' := [(4, .int (-1)), (0, .ref h0), (1, .int v), (2, .int i), (3, .int w)]) hx hb dX0_placeIn_6 hl (by decide) rfl (fun ls hl => ?_)
    refine lv_iload hx hb dX0_placeIn_8 (lv_at hl 0 rfl) ?_
    refine wz_m_lt (tgt := 36) hx hb dX0_placeIn_10 (by decide) ?_
    refine lv_iconst (v := -1) hx hb dX0_placeIn_36 (by decide +kernel) ?_
    exact W.iret (v := -1) hx hb hret (fun t ht hW => ⟨⟨-1, (), rfl, Or.inl ⟨hno, rfl⟩, ⟨by rw [ht]; exact hP, va_K.moved hW.alike hK, hD⟩⟩, hS.F ht⟩) hS.2.2 dX0_placeIn_37
  · have hr : r = nI k := hr
    subst hr
    refine lv_istore (lv' := [(4, .int (nI k)), (0, .ref h0), (1, .int v), (2, .int i), (3, .int w)]) hx hb dX0_placeIn_6 hl (by decide) rfl (fun ls hl => ?_)
    refine lv_iload hx hb dX0_placeIn_8 (lv_at hl 0 rfl) ?_
    refine wz_n_lt (tgt := 36) hx hb (by omega) dX0_placeIn_10 (by decide) ?_
    refine lv_aload_n hx hb dX0_placeIn_13 rfl (lv_at hl 1 rfl) ?_
    refine lv_iload_n hx hb dX0_placeIn_14 rfl (lv_at hl 4 rfl) ?_
    refine cz_i (As := [.int w]) (rest := []) ⟨hx, hb, hml, hown, hts⟩ (mX_isVersion l D h0 h1 h2 h3 h4 h5 d1 d2 d3 d4 d5 T co ow tk N ba li dr w (by omega)) (cwV 1 hts (lw_V q52 q54 qs0 q11 q55) rfl rfl rfl (by decide +kernel) ⟨Nat.le_of_ble_eq_true rfl, Nat.le_of_ble_eq_true rfl⟩) hP hK hD hS hA (ci := 0) rfl rfl rfl rfl hl.1 rfl (Nat.le_of_ble_eq_true rfl) dX0_placeIn_15 ⟨Nat.zero_le _, Nat.zero_le _⟩ (fun r u H locs hr hP hD hS => ?_)
    have hr : r = bI (vOk N w) := hr
    subst hr
    refine wz_b_eq (tgt := 36) hx hb dX0_placeIn_18 (by decide) (fun c_18 => ?_) (fun c_18 => ?_)
    · refine lv_iconst (v := -1) hx hb dX0_placeIn_36 (by decide +kernel) ?_
      exact W.iret (v := -1) hx hb hret (fun t ht hW => ⟨⟨-1, (), rfl, Or.inr ⟨j, k, hj, hv, hk, hp, hi, (xplF_f1 c_18).symm⟩, ⟨by rw [ht]; exact hP, va_K.moved hW.alike hK, hD⟩⟩, hS.F ht⟩) hS.2.2 dX0_placeIn_37
    · obtain ⟨j2, hj2, rfl⟩ := vOk_of (by omega) c_18
      refine lv_aload_n hx hb dX0_placeIn_21 rfl (lv_at hl 1 rfl) ?_
      refine lv_iload hx hb dX0_placeIn_22 (lv_at hl 0 rfl) ?_
      refine lv_aload_n hx hb dX0_placeIn_24 rfl (lv_at hl 1 rfl) ?_
      refine gX_lineage hx hb hts hown hK hP dX0_placeIn_25 ?_
      refine lv_iload_n hx hb dX0_placeIn_28 rfl (lv_at hl 4 rfl) ?_
      refine lX_lineage hx hb hK hP (i := j2) (by omega) dX0_placeIn_29 ?_
      refine cz_i (As := [.int (nI k), .int (li j2)]) (rest := []) ⟨hx, hb, hml, hown, hts⟩ (mX_shows l D h0 h1 h2 h3 h4 h5 d1 d2 d3 d4 d5 T co ow tk N ba li dr k (li j2) (by omega)) (cwV 2 hts (lw_V q64 q66 qs3 q11 q67) rfl rfl rfl (by decide +kernel) ⟨Nat.le_of_ble_eq_true rfl, Nat.le_of_ble_eq_true rfl⟩) hP hK hD hS hA (ci := 0) rfl rfl rfl rfl hl.1 rfl (Nat.le_of_ble_eq_true rfl) dX0_placeIn_30 ⟨Nat.zero_le _, Nat.zero_le _⟩ (fun r u H locs hr hP hD hS => ?_)
      have hr : r = bI (sh (ow k) (tk k) (li j2)) := hr
      subst hr
      refine wz_b_ne (tgt := 38) hx hb dX0_placeIn_33 (by decide) (fun c_33 => ?_) (fun c_33 => ?_)
      · refine lv_iconst (v := nI 0) hx hb dX0_placeIn_38 (by decide +kernel) ?_
        refine lv_istore (lv' := [(5, .int (nI 0)), (4, .int (nI k)), (0, .ref h0), (1, .int v), (2, .int i), (3, .int (nI j2))]) hx hb dX0_placeIn_39 hl (by decide) rfl (fun ls hl => ?_)
        refine lv_iconst (v := nI 0) hx hb dX0_placeIn_41 (by decide +kernel) ?_
        refine lv_istore (lv' := [(6, .int (nI 0)), (5, .int (nI 0)), (4, .int (nI k)), (0, .ref h0), (1, .int v), (2, .int i), (3, .int (nI j2))]) hx hb dX0_placeIn_42 hl (by decide) rfl (fun ls hl => ?_)
        refine lpX_placeIn hx hb hml hown hts hA hK ⟨Nat.le_of_ble_eq_true rfl, Nat.le_of_ble_eq_true rfl⟩ j2 k (by omega) (by omega) (fun H locs hP hD hS ls hl => ?_) (k + 1) 0 (Nat.zero_le k) (by omega) _ _ hP hD hS ls (lv_sub hl [3, 6, 2, 1, 0] rfl)
        refine lv_iload hx hb dX0_placeIn_82 (lv_at hl 0 rfl) ?_
        exact W.iret (v := nI (cnt (pv ow tk (li j2)) k)) hx hb hret (fun t ht hW => ⟨⟨nI (cnt (pv ow tk (li j2)) k), (), rfl, Or.inr ⟨j, k, hj, hv, hk, hp, hi, (xplF_t (P := fun j => pv ow tk (li j)) hN hj2 c_33).symm⟩, ⟨by rw [ht]; exact hP, va_K.moved hW.alike hK, hD⟩⟩, hS.F ht⟩) hS.2.2 dX0_placeIn_84
      · refine lv_iconst (v := -1) hx hb dX0_placeIn_36 (by decide +kernel) ?_
        exact W.iret (v := -1) hx hb hret (fun t ht hW => ⟨⟨-1, (), rfl, Or.inr ⟨j, k, hj, hv, hk, hp, hi, (xplF_f2 (P := fun j => pv ow tk (li j)) hN hj2 c_33).symm⟩, ⟨by rw [ht]; exact hP, va_K.moved hW.alike hK, hD⟩⟩, hS.F ht⟩) hS.2.2 dX0_placeIn_37
set_option maxHeartbeats 4000000 in
set_option maxRecDepth 100000 in
theorem lpX_having {p : Program} {l : Launch} {e : Env} {R : Room} {s : State} {m : MethodId} {args : Array Value} {below : List Frame} {meth : Method} {c : Code} {Q : State → Prop} {D : va_G} {A : Nat → Prop} {h0 h1 h2 h3 h4 h5 : Nat} {d1 d2 d3 d4 d5 : ClassId} {T : Nat} {co : Nat → Int32} {ow : Nat → Int32} {tk : Nat → Int32} {N : Nat} {ba : Nat → Int32} {li : Nat → Int32} {dr : Int32} (hx : p.tables.exec = Jvm.exec) (hb : c.code = cX0_having) (hml : c.maxLocals = 6) (hown : s.vm.findClass RX0 = some m.cls) (hts : ∀ w ∈ lw_all, w.before args s = true) (hA : ∀ q : Nat, s.heap.size ≤ q → A q) (hK : va_K D vwCl (TYX d1 d2 d3 d4 d5) s) (hR : 1 ≤ R.frames ∧ 30 ≤ R.locals) (k : Nat) (hN : N ≤ 12) (hk30 : k < 30) (hk : ∀ (H : Heap) (locs : List Loc), va_P D vwCl (XW h0 h1 h2 h3 h4 h5 d1 d2 d3 d4 d5 T co ow tk N ba li dr) H → va_D A (XW h0 h1 h2 h3 h4 h5 d1 d2 d3 d4 d5 T co ow tk N ba li dr) → va_S A s.heap H locs → ∀ ls : Array Slot, lv_has ls 6 [(4, .int (bset (fun w => pv ow tk (li w) k) N))] → W p l e R s m args below meth c H locs 0 0 Q (F0 m 60 ls [])) : ∀ (n i : Nat), i ≤ N → N + 1 ≤ i + n → ∀ (H : Heap) (locs : List Loc), va_P D vwCl (XW h0 h1 h2 h3 h4 h5 d1 d2 d3 d4 d5 T co ow tk N ba li dr) H → va_D A (XW h0 h1 h2 h3 h4 h5 d1 d2 d3 d4 d5 T co ow tk N ba li dr) → va_S A s.heap H locs → ∀ ls : Array Slot, lv_has ls 6 [(0, .ref h0), (3, .int (nI k)), (4, .int (bset (fun w => pv ow tk (li w) k) i)), (5, .int (nI i))] → W p l e R s m args below meth c H locs 0 0 Q (F0 m 13 ls []) := by
  intro n
  induction n with
  | zero =>
    intro i h1 h2
    exact absurd h2 (by omega)
  | succ n ih =>
    intro i hi hn H locs hP hD hS ls hl
    refine lv_iload hx hb dX0_having_13 (lv_at hl 3 rfl) ?_
    refine lv_aload_n hx hb dX0_having_15 rfl (lv_at hl 0 rfl) ?_
    refine gX_count hx hb hts hown hK hP dX0_having_16 ?_
    refine wz_ge (tgt := 60) hx hb (by omega) (by omega) dX0_having_19 (by decide) (fun c_19 => ?_) (fun c_19 => ?_)
    · rw [show i = N from by omega] at hl
      exact hk _ _ hP hD hS ls (lv_sub hl [2] rfl)
    · refine lv_iload_n hx hb dX0_having_22 rfl (lv_at hl 1 rfl) ?_
      refine wz_n_lt (tgt := 60) hx hb (by omega) dX0_having_23 (by decide) ?_
      refine lv_iload hx hb dX0_having_26 (lv_at hl 2 rfl) ?_
      refine lv_aload_n hx hb dX0_having_28 rfl (lv_at hl 0 rfl) ?_
      refine lv_iload_n hx hb dX0_having_29 rfl (lv_at hl 1 rfl) ?_
      refine lv_aload_n hx hb dX0_having_30 rfl (lv_at hl 0 rfl) ?_
      refine gX_lineage hx hb hts hown hK hP dX0_having_31 ?_
      refine lv_iload hx hb dX0_having_34 (lv_at hl 3 rfl) ?_
      refine lX_lineage hx hb hK hP (i := i) (by omega) dX0_having_36 ?_
      refine cz_i (As := [.int (nI k), .int (li i)]) (rest := [.int (bset (fun w => pv ow tk (li w) k) i)]) ⟨hx, hb, hml, hown, hts⟩ (mX_shows l D h0 h1 h2 h3 h4 h5 d1 d2 d3 d4 d5 T co ow tk N ba li dr k (li i) (by omega)) (cwV 2 hts (lw_V q64 q66 qs3 q11 q67) rfl rfl rfl (by decide +kernel) ⟨Nat.le_trans (Nat.le_of_ble_eq_true rfl) hR.1, Nat.le_trans (Nat.le_of_ble_eq_true rfl) hR.2⟩) hP hK hD hS hA (ci := 0) rfl rfl rfl rfl hl.1 rfl (Nat.le_of_ble_eq_true rfl) dX0_having_37 ⟨Nat.zero_le _, Nat.zero_le _⟩ (fun r u H locs hr hP hD hS => ?_)
      have hr : r = bI (sh (ow k) (tk k) (li i)) := hr
      subst hr
      refine wz_b_eq (tgt := 50) hx hb dX0_having_40 (by decide) (fun c_40 => ?_) (fun c_40 => ?_)
      · refine lv_iconst (v := nI 0) hx hb dX0_having_50 (by decide +kernel) ?_
        refine lv_ior hx hb dX0_having_51 ?_
        refine wz_top (x := (bset (fun w => pv ow tk (li w) k) i) ||| (nI 0)) (y := bset (fun w => pv ow tk (li w) k) (i + 1)) ((or_nI0 _).trans (bset_f (f := fun w => pv ow tk (li w) k) (k := i) c_40)) ?_
        refine lv_istore (lv' := [(4, .int (bset (fun w => pv ow tk (li w) k) (i + 1))), (0, .ref h0), (3, .int (nI k)), (5, .int (nI i))]) hx hb dX0_having_52 hl (by decide) rfl (fun ls hl => ?_)
        refine lv_iinc (v := nI (i + 1)) (lv' := [(5, .int (nI (i + 1))), (4, .int (bset (fun w => pv ow tk (li w) k) (i + 1))), (0, .ref h0), (3, .int (nI k))]) hx hb dX0_having_54 hl (k := 3) rfl (wz_inc1 i) (by decide) rfl (fun ls hl => ?_)
        refine lv_goto (tgt := 13) hx hb dX0_having_57 (by decide) ?_
        exact ih (i + 1) (by omega) (by omega) _ _ hP hD hS ls (lv_sub hl [2, 3, 1, 0] rfl)
      · refine lv_iconst (v := nI 1) hx hb dX0_having_43 (by decide +kernel) ?_
        refine lv_iload hx hb dX0_having_44 (lv_at hl 3 rfl) ?_
        refine lv_ishl hx hb dX0_having_46 ?_
        refine lv_goto (tgt := 51) hx hb dX0_having_47 (by decide) ?_
        refine lv_ior hx hb dX0_having_51 ?_
        refine wz_top (x := (bset (fun w => pv ow tk (li w) k) i) ||| ((nI 1) <<< ((nI i) &&& 31))) (y := bset (fun w => pv ow tk (li w) k) (i + 1)) (bset_t (f := fun w => pv ow tk (li w) k) (k := i) c_40) ?_
        refine lv_istore (lv' := [(4, .int (bset (fun w => pv ow tk (li w) k) (i + 1))), (0, .ref h0), (3, .int (nI k)), (5, .int (nI i))]) hx hb dX0_having_52 hl (by decide) rfl (fun ls hl => ?_)
        refine lv_iinc (v := nI (i + 1)) (lv' := [(5, .int (nI (i + 1))), (4, .int (bset (fun w => pv ow tk (li w) k) (i + 1))), (0, .ref h0), (3, .int (nI k))]) hx hb dX0_having_54 hl (k := 3) rfl (wz_inc1 i) (by decide) rfl (fun ls hl => ?_)
        refine lv_goto (tgt := 13) hx hb dX0_having_57 (by decide) ?_
        exact ih (i + 1) (by omega) (by omega) _ _ hP hD hS ls (lv_sub hl [2, 3, 1, 0] rfl)
set_option maxHeartbeats 4000000 in
set_option maxRecDepth 100000 in
theorem mX_having (l : Launch) (D : va_G) (h0 h1 h2 h3 h4 h5 : Nat) (d1 d2 d3 d4 d5 : ClassId) (T : Nat) (co : Nat → Int32) (ow : Nat → Int32) (tk : Nat → Int32) (N : Nat) (ba : Nat → Int32) (li : Nat → Int32) (dr : Int32) (v i : Int32) (hT : T ≤ 30) (hN : N ≤ 12) : MetI l yX0_having (ws_ yX0_having cX0_having 6 (some .int)) zr3 D (TYX d1 d2 d3 d4 d5) [.ref h0, .int v, .int i] (XW h0 h1 h2 h3 h4 h5 d1 d2 d3 d4 d5 T co ow tk N ba li dr) (fun r (_ : Unit) => xatP N T (fun j => pv ow tk (li j)) v i r (nI 0) (fun k => bset (fun w => pv ow tk (li w) k) N)) (fun _ : Unit => XW h0 h1 h2 h3 h4 h5 d1 d2 d3 d4 d5 T co ow tk N ba li dr) := by
  intro sz
  refine Met.ofW (cc := cX0_having) (maxL := 6) (ret := some .int) (by decide) rfl ?_
  intro p e s m args below meth c s₁ B hml hv
  obtain ⟨rfl, hsz, hP, hK, hD0⟩ := hv
  have hx := B.exec
  have hb := B.bytes
  have hret := B.returns
  have hts := atoms_spec (ws := ws_ yX0_having cX0_having 6 (some .int)) B.pre
  have hts : ∀ w ∈ lw_all, w.before _ s = true := fun w h => hts w (List.mem_cons_of_mem _ h)
  have hown : s.vm.findClass RX0 = some m.cls := findClass_of_methodNamed B.named
  have hlocks := B.notSynchronized
  subst hsz
  have hD := hD0.self (sz := s.heap.size)
  generalize hAe : va_A (XW h0 h1 h2 h3 h4 h5 d1 d2 d3 d4 d5 T co ow tk N ba li dr) s.heap.size = A at hD ⊢
  have hA : ∀ q : Nat, s.heap.size ≤ q → A q := fun q h => by rw [← hAe]; exact Or.inr h
  have hS : va_S A s.heap s.heap [] := va_S.rf
  have hl := lv_entry ([.ref h0, .int v, .int i]) (n := 6) (Nat.le_of_ble_eq_true rfl)
  rw [lg_entry_eq]
  generalize (lg_sl ([.ref h0, .int v, .int i]) ++ List.replicate (6 - (lg_sl ([.ref h0, .int v, .int i])).length) Slot.unset).toArray = ls at hl ⊢
  have hl : lv_has ls 6 [(0, .ref h0), (1, .int v), (2, .int i)] := hl
  refine lv_aload_n hx hb dX0_having_0 rfl (lv_at hl 0 rfl) ?_
  refine lv_iload_n hx hb dX0_having_1 rfl (lv_at hl 1 rfl) ?_
  refine lv_iload_n hx hb dX0_having_2 rfl (lv_at hl 2 rfl) ?_
  refine cz_i (As := [.int v, .int i]) (rest := []) ⟨hx, hb, hml, hown, hts⟩ (mX_lineAt l D h0 h1 h2 h3 h4 h5 d1 d2 d3 d4 d5 T co ow tk N ba li dr v i hT hN) (cwV 2 hts (lw_V q104 q106 qs6 q11 q107) rfl rfl rfl (by decide +kernel) ⟨Nat.le_of_ble_eq_true rfl, Nat.le_of_ble_eq_true rfl⟩) hP hK hD hS hA (ci := 0) rfl rfl rfl rfl hl.1 rfl (Nat.le_of_ble_eq_true rfl) dX0_having_3 ⟨Nat.zero_le _, Nat.zero_le _⟩ (fun r u H locs hr hP hD hS => ?_)
  have hr : xatP N T (fun j => pv ow tk (li j)) v i r (-1) (fun k => nI k) := hr
  rcases hr with ⟨hno, hr⟩ | ⟨j, k, hj, hv, hk, hp, hi, hr⟩
  · subst hr
    refine lv_istore_n (lv' := [(3, .int (-1)), (0, .ref h0), (1, .int v), (2, .int i)]) hx hb dX0_having_6 rfl hl (by decide) rfl (fun ls hl => ?_)
    refine lv_iconst (v := nI 0) hx hb dX0_having_7 (by decide +kernel) ?_
    refine lv_istore (lv' := [(4, .int (nI 0)), (3, .int (-1)), (0, .ref h0), (1, .int v), (2, .int i)]) hx hb dX0_having_8 hl (by decide) rfl (fun ls hl => ?_)
    refine lv_iconst (v := nI 0) hx hb dX0_having_10 (by decide +kernel) ?_
    refine lv_istore (lv' := [(5, .int (nI 0)), (4, .int (nI 0)), (3, .int (-1)), (0, .ref h0), (1, .int v), (2, .int i)]) hx hb dX0_having_11 hl (by decide) rfl (fun ls hl => ?_)
    refine lv_iload hx hb dX0_having_13 (lv_at hl 0 rfl) ?_
    refine lv_aload_n hx hb dX0_having_15 rfl (lv_at hl 3 rfl) ?_
    refine gX_count hx hb hts hown hK hP dX0_having_16 ?_
    refine wz_ge (tgt := 60) hx hb (by omega) (by omega) dX0_having_19 (by decide) (fun c_19 => ?_) (fun c_19 => ?_)
    · refine lv_iload hx hb dX0_having_60 (lv_at hl 1 rfl) ?_
      exact W.iret (v := nI 0) hx hb hret (fun t ht hW => ⟨⟨nI 0, (), rfl, Or.inl ⟨hno, rfl⟩, ⟨by rw [ht]; exact hP, va_K.moved hW.alike hK, hD⟩⟩, hS.F ht⟩) hS.2.2 dX0_having_62
    · refine lv_iload_n hx hb dX0_having_22 rfl (lv_at hl 2 rfl) ?_
      refine wz_m_lt (tgt := 60) hx hb dX0_having_23 (by decide) ?_
      refine lv_iload hx hb dX0_having_60 (lv_at hl 1 rfl) ?_
      exact W.iret (v := nI 0) hx hb hret (fun t ht hW => ⟨⟨nI 0, (), rfl, Or.inl ⟨hno, rfl⟩, ⟨by rw [ht]; exact hP, va_K.moved hW.alike hK, hD⟩⟩, hS.F ht⟩) hS.2.2 dX0_having_62
  · have hr : r = nI k := hr
    subst hr
    refine lv_istore_n (lv' := [(3, .int (nI k)), (0, .ref h0), (1, .int v), (2, .int i)]) hx hb dX0_having_6 rfl hl (by decide) rfl (fun ls hl => ?_)
    refine lv_iconst (v := nI 0) hx hb dX0_having_7 (by decide +kernel) ?_
    refine lv_istore (lv' := [(4, .int (nI 0)), (3, .int (nI k)), (0, .ref h0), (1, .int v), (2, .int i)]) hx hb dX0_having_8 hl (by decide) rfl (fun ls hl => ?_)
    refine lv_iconst (v := nI 0) hx hb dX0_having_10 (by decide +kernel) ?_
    refine lv_istore (lv' := [(5, .int (nI 0)), (4, .int (nI 0)), (3, .int (nI k)), (0, .ref h0), (1, .int v), (2, .int i)]) hx hb dX0_having_11 hl (by decide) rfl (fun ls hl => ?_)
    refine lpX_having hx hb hml hown hts hA hK ⟨Nat.le_of_ble_eq_true rfl, Nat.le_of_ble_eq_true rfl⟩ k hN (by omega) (fun H locs hP hD hS ls hl => ?_) (N + 1) 0 (Nat.zero_le N) (by omega) _ _ hP hD hS ls (lv_sub hl [3, 2, 1, 0] rfl)
    refine lv_iload hx hb dX0_having_60 (lv_at hl 0 rfl) ?_
    exact W.iret (v := bset (fun w => pv ow tk (li w) k) N) hx hb hret (fun t ht hW => ⟨⟨bset (fun w => pv ow tk (li w) k) N, (), rfl, Or.inr ⟨j, k, hj, hv, hk, hp, hi, rfl⟩, ⟨by rw [ht]; exact hP, va_K.moved hW.alike hK, hD⟩⟩, hS.F ht⟩) hS.2.2 dX0_having_62
set_option maxHeartbeats 4000000 in
set_option maxRecDepth 100000 in
theorem lpX_draft {p : Program} {l : Launch} {e : Env} {R : Room} {s : State} {m : MethodId} {args : Array Value} {below : List Frame} {meth : Method} {c : Code} {Q : State → Prop} {D : va_G} {A : Nat → Prop} {h0 h1 h2 h3 h4 h5 : Nat} {d1 d2 d3 d4 d5 : ClassId} {T : Nat} {co : Nat → Int32} {ow : Nat → Int32} {tk : Nat → Int32} {N : Nat} {ba : Nat → Int32} {li : Nat → Int32} {dr : Int32} (hx : p.tables.exec = Jvm.exec) (hb : c.code = cX0_draft) (hml : c.maxLocals = 5) (hown : s.vm.findClass RX0 = some m.cls) (hts : ∀ w ∈ lw_all, w.before args s = true) (hA : ∀ q : Nat, s.heap.size ≤ q → A q) (hK : va_K D vwCl (TYX d1 d2 d3 d4 d5) s) (hR : 1 ≤ R.frames ∧ 30 ≤ R.locals) (v : Int32) (hT : T ≤ 30) (hN : N ≤ 12) (hk : ∀ (H : Heap) (locs : List Loc), va_P D vwCl (XW h0 h1 h2 h3 h4 h5 d1 d2 d3 d4 d5 T co ow tk N ba li dr) H → va_D A (XW h0 h1 h2 h3 h4 h5 d1 d2 d3 d4 d5 T co ow tk N ba li dr) → va_S A s.heap H locs → ∀ ls : Array Slot, lv_has ls 5 [(1, .int v), (2, .int (nI (cnt (pv ow tk (li N)) T))), (3, .int (nI (cnt (fun k => pv ow tk (li N) k && decide (ow k = nI N)) T)))] → W p l e R s m args below meth c H locs 0 0 Q (F0 m 83 ls [])) : ∀ (n i : Nat), i ≤ T → T + 1 ≤ i + n → ∀ (H : Heap) (locs : List Loc), va_P D vwCl (XW h0 h1 h2 h3 h4 h5 d1 d2 d3 d4 d5 T co ow tk N ba li dr) H → va_D A (XW h0 h1 h2 h3 h4 h5 d1 d2 d3 d4 d5 T co ow tk N ba li dr) → va_S A s.heap H locs → ∀ ls : Array Slot, lv_has ls 5 [(0, .ref h0), (1, .int v), (2, .int (nI (cnt (pv ow tk (li N)) i))), (3, .int (nI (cnt (fun k => pv ow tk (li N) k && decide (ow k = nI N)) i))), (4, .int (nI i))] → W p l e R s m args below meth c H locs 0 0 Q (F0 m 25 ls []) := by
  intro n
  induction n with
  | zero =>
    intro i h1 h2
    exact absurd h2 (by omega)
  | succ n ih =>
    intro i hi hn H locs hP hD hS ls hl
    refine lv_iload hx hb dX0_draft_25 (lv_at hl 4 rfl) ?_
    refine lv_aload_n hx hb dX0_draft_27 rfl (lv_at hl 0 rfl) ?_
    refine gX_total hx hb hts hown hK hP dX0_draft_28 ?_
    refine wz_ge (tgt := 83) hx hb (by omega) (by omega) dX0_draft_31 (by decide) (fun c_31 => ?_) (fun c_31 => ?_)
    · rw [show i = T from by omega] at hl
      exact hk _ _ hP hD hS ls (lv_sub hl [1, 2, 3] rfl)
    · refine lv_aload_n hx hb dX0_draft_34 rfl (lv_at hl 0 rfl) ?_
      refine lv_iload hx hb dX0_draft_35 (lv_at hl 4 rfl) ?_
      refine lv_aload_n hx hb dX0_draft_37 rfl (lv_at hl 0 rfl) ?_
      refine gX_lineage hx hb hts hown hK hP dX0_draft_38 ?_
      refine lv_aload_n hx hb dX0_draft_41 rfl (lv_at hl 0 rfl) ?_
      refine gX_count hx hb hts hown hK hP dX0_draft_42 ?_
      refine lX_lineage hx hb hK hP (i := N) (by omega) dX0_draft_45 ?_
      refine cz_i (As := [.int (nI i), .int (li N)]) (rest := []) ⟨hx, hb, hml, hown, hts⟩ (mX_shows l D h0 h1 h2 h3 h4 h5 d1 d2 d3 d4 d5 T co ow tk N ba li dr i (li N) (by omega)) (cwV 2 hts (lw_V q64 q66 qs3 q11 q67) rfl rfl rfl (by decide +kernel) ⟨Nat.le_trans (Nat.le_of_ble_eq_true rfl) hR.1, Nat.le_trans (Nat.le_of_ble_eq_true rfl) hR.2⟩) hP hK hD hS hA (ci := 0) rfl rfl rfl rfl hl.1 rfl (Nat.le_of_ble_eq_true rfl) dX0_draft_46 ⟨Nat.zero_le _, Nat.zero_le _⟩ (fun r u H locs hr hP hD hS => ?_)
      have hr : r = bI (sh (ow i) (tk i) (li N)) := hr
      subst hr
      refine wz_b_eq (tgt := 77) hx hb dX0_draft_49 (by decide) (fun c_49 => ?_) (fun c_49 => ?_)
      · refine lv_iinc (v := nI (i + 1)) (lv' := [(4, .int (nI (i + 1))), (0, .ref h0), (1, .int v), (2, .int (nI (cnt (pv ow tk (li N)) i))), (3, .int (nI (cnt (fun k => pv ow tk (li N) k && decide (ow k = nI N)) i)))]) hx hb dX0_draft_77 hl (k := 4) rfl (wz_inc1 i) (by decide) rfl (fun ls hl => ?_)
        refine lv_goto (tgt := 25) hx hb dX0_draft_80 (by decide) ?_
        have hc1 := cnt_f (p := pv ow tk (li N)) (n := i) c_49
        have hc2 := cnt_f (p := fun k => pv ow tk (li N) k && decide (ow k = nI N)) (n := i) (and_f1 c_49)
        exact ih (i + 1) (by omega) (by omega) _ _ hP hD hS ls (lv_sub hl [1, 2, 3, 4, 0] (by rw [hc1, hc2]; rfl))
      · refine lv_iinc (v := nI (cnt (pv ow tk (li N)) i + 1)) (lv' := [(2, .int (nI (cnt (pv ow tk (li N)) i + 1))), (0, .ref h0), (1, .int v), (3, .int (nI (cnt (fun k => pv ow tk (li N) k && decide (ow k = nI N)) i))), (4, .int (nI i))]) hx hb dX0_draft_52 hl (k := 2) rfl (wz_inc1 (cnt (pv ow tk (li N)) i)) (by decide) rfl (fun ls hl => ?_)
        refine lv_iload_n hx hb dX0_draft_55 rfl (lv_at hl 3 rfl) ?_
        refine lv_aload_n hx hb dX0_draft_56 rfl (lv_at hl 1 rfl) ?_
        refine gX_owners hx hb hts hown hK hP dX0_draft_57 ?_
        refine lv_iload hx hb dX0_draft_60 (lv_at hl 4 rfl) ?_
        refine lX_owners hx hb hK hP (i := i) (by omega) dX0_draft_62 ?_
        refine lv_aload_n hx hb dX0_draft_63 rfl (lv_at hl 1 rfl) ?_
        refine gX_count hx hb hts hown hK hP dX0_draft_64 ?_
        refine lv_icmp_ne (tgt := 74) hx hb dX0_draft_67 (by decide) (fun c_67 => ?_) (fun c_67 => ?_)
        · refine lv_iconst (v := nI 0) hx hb dX0_draft_74 (by decide +kernel) ?_
          refine wz_iadd hx hb dX0_draft_75 ?_
          refine lv_istore_n (lv' := [(3, .int (nI ((cnt (fun k => pv ow tk (li N) k && decide (ow k = nI N)) i) + 0))), (2, .int (nI (cnt (pv ow tk (li N)) i + 1))), (0, .ref h0), (1, .int v), (4, .int (nI i))]) hx hb dX0_draft_76 rfl hl (by decide) rfl (fun ls hl => ?_)
          refine lv_iinc (v := nI (i + 1)) (lv' := [(4, .int (nI (i + 1))), (3, .int (nI ((cnt (fun k => pv ow tk (li N) k && decide (ow k = nI N)) i) + 0))), (2, .int (nI (cnt (pv ow tk (li N)) i + 1))), (0, .ref h0), (1, .int v)]) hx hb dX0_draft_77 hl (k := 4) rfl (wz_inc1 i) (by decide) rfl (fun ls hl => ?_)
          refine lv_goto (tgt := 25) hx hb dX0_draft_80 (by decide) ?_
          have hc1 := cnt_t (p := pv ow tk (li N)) (n := i) c_49
          have hc2 := cnt_f (p := fun k => pv ow tk (li N) k && decide (ow k = nI N)) (n := i) (and_f2 (decide_eq_false c_67))
          exact ih (i + 1) (by omega) (by omega) _ _ hP hD hS ls (lv_sub hl [3, 4, 2, 1, 0] (by rw [hc1, hc2]; rfl))
        · refine lv_iconst (v := nI 1) hx hb dX0_draft_70 (by decide +kernel) ?_
          refine lv_goto (tgt := 75) hx hb dX0_draft_71 (by decide) ?_
          refine wz_iadd hx hb dX0_draft_75 ?_
          refine lv_istore_n (lv' := [(3, .int (nI ((cnt (fun k => pv ow tk (li N) k && decide (ow k = nI N)) i) + 1))), (2, .int (nI (cnt (pv ow tk (li N)) i + 1))), (0, .ref h0), (1, .int v), (4, .int (nI i))]) hx hb dX0_draft_76 rfl hl (by decide) rfl (fun ls hl => ?_)
          refine lv_iinc (v := nI (i + 1)) (lv' := [(4, .int (nI (i + 1))), (3, .int (nI ((cnt (fun k => pv ow tk (li N) k && decide (ow k = nI N)) i) + 1))), (2, .int (nI (cnt (pv ow tk (li N)) i + 1))), (0, .ref h0), (1, .int v)]) hx hb dX0_draft_77 hl (k := 4) rfl (wz_inc1 i) (by decide) rfl (fun ls hl => ?_)
          refine lv_goto (tgt := 25) hx hb dX0_draft_80 (by decide) ?_
          have hc1 := cnt_t (p := pv ow tk (li N)) (n := i) c_49
          have hc2 := cnt_t (p := fun k => pv ow tk (li N) k && decide (ow k = nI N)) (n := i) (and_t c_49 (decide_eq_true c_67))
          exact ih (i + 1) (by omega) (by omega) _ _ hP hD hS ls (lv_sub hl [3, 4, 2, 1, 0] (by rw [hc1, hc2]; rfl))
set_option maxHeartbeats 4000000 in
set_option maxRecDepth 100000 in
theorem mX_draft (l : Launch) (D : va_G) (h0 h1 h2 h3 h4 h5 : Nat) (d1 d2 d3 d4 d5 : ClassId) (T : Nat) (co : Nat → Int32) (ow : Nat → Int32) (tk : Nat → Int32) (N : Nat) (ba : Nat → Int32) (li : Nat → Int32) (dr : Int32) (v : Int32) (hT : T ≤ 30) (hN : N ≤ 12) : MetI l yX0_draft (ws_ yX0_draft cX0_draft 5 (some .int)) zr1 D (TYX d1 d2 d3 d4 d5) [.ref h0, .int v] (XW h0 h1 h2 h3 h4 h5 d1 d2 d3 d4 d5 T co ow tk N ba li dr) (fun r (_ : Unit) => r = drf dr v (cnt (pv ow tk (li N)) T) (cnt (fun k => pv ow tk (li N) k && decide (ow k = nI N)) T)) (fun _ : Unit => XW h0 h1 h2 h3 h4 h5 d1 d2 d3 d4 d5 T co ow tk N ba li dr) := by
  intro sz
  refine Met.ofW (cc := cX0_draft) (maxL := 5) (ret := some .int) (by decide) rfl ?_
  intro p e s m args below meth c s₁ B hml hv
  obtain ⟨rfl, hsz, hP, hK, hD0⟩ := hv
  have hx := B.exec
  have hb := B.bytes
  have hret := B.returns
  have hts := atoms_spec (ws := ws_ yX0_draft cX0_draft 5 (some .int)) B.pre
  have hts : ∀ w ∈ lw_all, w.before _ s = true := fun w h => hts w (List.mem_cons_of_mem _ h)
  have hown : s.vm.findClass RX0 = some m.cls := findClass_of_methodNamed B.named
  have hlocks := B.notSynchronized
  subst hsz
  have hD := hD0.self (sz := s.heap.size)
  generalize hAe : va_A (XW h0 h1 h2 h3 h4 h5 d1 d2 d3 d4 d5 T co ow tk N ba li dr) s.heap.size = A at hD ⊢
  have hA : ∀ q : Nat, s.heap.size ≤ q → A q := fun q h => by rw [← hAe]; exact Or.inr h
  have hS : va_S A s.heap s.heap [] := va_S.rf
  have hl := lv_entry ([.ref h0, .int v]) (n := 5) (Nat.le_of_ble_eq_true rfl)
  rw [lg_entry_eq]
  generalize (lg_sl ([.ref h0, .int v]) ++ List.replicate (5 - (lg_sl ([.ref h0, .int v])).length) Slot.unset).toArray = ls at hl ⊢
  have hl : lv_has ls 5 [(0, .ref h0), (1, .int v)] := hl
  refine lv_aload_n hx hb dX0_draft_0 rfl (lv_at hl 0 rfl) ?_
  refine gX_drafting hx hb hts hown hK hP dX0_draft_1 ?_
  refine lv_if_eq (tgt := 16) hx hb dX0_draft_4 (by decide) (fun c_4 => ?_) (fun c_4 => ?_)
  · refine lv_iconst (v := -1) hx hb dX0_draft_16 (by decide +kernel) ?_
    exact W.iret (v := -1) hx hb hret (fun t ht hW => ⟨⟨-1, (), rfl, (drf_bad (Or.inl c_4)).symm, ⟨by rw [ht]; exact hP, va_K.moved hW.alike hK, hD⟩⟩, hS.F ht⟩) hS.2.2 dX0_draft_17
  · refine lv_iload_n hx hb dX0_draft_7 rfl (lv_at hl 1 rfl) ?_
    refine lv_if_lt (tgt := 16) hx hb dX0_draft_8 (by decide) (fun c_8 => ?_) (fun c_8 => ?_)
    · refine lv_iconst (v := -1) hx hb dX0_draft_16 (by decide +kernel) ?_
      exact W.iret (v := -1) hx hb hret (fun t ht hW => ⟨⟨-1, (), rfl, (drf_bad (Or.inr (Or.inl c_8))).symm, ⟨by rw [ht]; exact hP, va_K.moved hW.alike hK, hD⟩⟩, hS.F ht⟩) hS.2.2 dX0_draft_17
    · refine lv_iload_n hx hb dX0_draft_11 rfl (lv_at hl 1 rfl) ?_
      refine lv_iconst (v := nI 2) hx hb dX0_draft_12 (by decide +kernel) ?_
      refine lv_icmp_le (tgt := 18) hx hb dX0_draft_13 (by decide) (fun c_13 => ?_) (fun c_13 => ?_)
      · refine lv_iconst (v := nI 0) hx hb dX0_draft_18 (by decide +kernel) ?_
        refine lv_istore_n (lv' := [(2, .int (nI 0)), (0, .ref h0), (1, .int v)]) hx hb dX0_draft_19 rfl hl (by decide) rfl (fun ls hl => ?_)
        refine lv_iconst (v := nI 0) hx hb dX0_draft_20 (by decide +kernel) ?_
        refine lv_istore_n (lv' := [(3, .int (nI 0)), (2, .int (nI 0)), (0, .ref h0), (1, .int v)]) hx hb dX0_draft_21 rfl hl (by decide) rfl (fun ls hl => ?_)
        refine lv_iconst (v := nI 0) hx hb dX0_draft_22 (by decide +kernel) ?_
        refine lv_istore (lv' := [(4, .int (nI 0)), (3, .int (nI 0)), (2, .int (nI 0)), (0, .ref h0), (1, .int v)]) hx hb dX0_draft_23 hl (by decide) rfl (fun ls hl => ?_)
        refine lpX_draft hx hb hml hown hts hA hK ⟨Nat.le_of_ble_eq_true rfl, Nat.le_of_ble_eq_true rfl⟩ v hT hN (fun H locs hP hD hS ls hl => ?_) (T + 1) 0 (Nat.zero_le T) (by omega) _ _ hP hD hS ls (lv_sub hl [3, 4, 2, 1, 0] rfl)
        refine lv_iload_n hx hb dX0_draft_83 rfl (lv_at hl 0 rfl) ?_
        refine lv_if_ne (tgt := 89) hx hb dX0_draft_84 (by decide) (fun c_84 => ?_) (fun c_84 => ?_)
        · refine lv_iload_n hx hb dX0_draft_89 rfl (lv_at hl 0 rfl) ?_
          refine lv_iconst (v := nI 1) hx hb dX0_draft_90 (by decide +kernel) ?_
          refine lv_icmp_ne (tgt := 100) hx hb dX0_draft_91 (by decide) (fun c_91 => ?_) (fun c_91 => ?_)
          · refine lv_iload_n hx hb dX0_draft_100 rfl (lv_at hl 2 rfl) ?_
            exact W.iret (v := nI (cnt (fun k => pv ow tk (li N) k && decide (ow k = nI N)) T)) hx hb hret (fun t ht hW => ⟨⟨nI (cnt (fun k => pv ow tk (li N) k && decide (ow k = nI N)) T), (), rfl, (drf_2 (not_drBad c_4 c_8 c_13) c_84 c_91).symm, ⟨by rw [ht]; exact hP, va_K.moved hW.alike hK, hD⟩⟩, hS.F ht⟩) hS.2.2 dX0_draft_101
          · refine lv_iload_n hx hb dX0_draft_94 rfl (lv_at hl 1 rfl) ?_
            refine lv_iload_n hx hb dX0_draft_95 rfl (lv_at hl 2 rfl) ?_
            refine lv_isub hx hb dX0_draft_96 ?_
            refine lv_goto (tgt := 101) hx hb dX0_draft_97 (by decide) ?_
            exact W.iret (v := (nI (cnt (pv ow tk (li N)) T)) - (nI (cnt (fun k => pv ow tk (li N) k && decide (ow k = nI N)) T))) hx hb hret (fun t ht hW => ⟨⟨(nI (cnt (pv ow tk (li N)) T)) - (nI (cnt (fun k => pv ow tk (li N) k && decide (ow k = nI N)) T)), (), rfl, (drf_1 (not_drBad c_4 c_8 c_13) c_84 c_91).symm, ⟨by rw [ht]; exact hP, va_K.moved hW.alike hK, hD⟩⟩, hS.F ht⟩) hS.2.2 dX0_draft_101
        · refine lv_iload_n hx hb dX0_draft_87 rfl (lv_at hl 1 rfl) ?_
          exact W.iret (v := nI (cnt (pv ow tk (li N)) T)) hx hb hret (fun t ht hW => ⟨⟨nI (cnt (pv ow tk (li N)) T), (), rfl, (drf_0 (not_drBad c_4 c_8 c_13) c_84).symm, ⟨by rw [ht]; exact hP, va_K.moved hW.alike hK, hD⟩⟩, hS.F ht⟩) hS.2.2 dX0_draft_88
      · refine lv_iconst (v := -1) hx hb dX0_draft_16 (by decide +kernel) ?_
        exact W.iret (v := -1) hx hb hret (fun t ht hW => ⟨⟨-1, (), rfl, (drf_bad (Or.inr (Or.inr (Int32.not_le.mp c_13)))).symm, ⟨by rw [ht]; exact hP, va_K.moved hW.alike hK, hD⟩⟩, hS.F ht⟩) hS.2.2 dX0_draft_17
end
section
/-! the constructors -/
set_option maxHeartbeats 4000000 in
set_option maxRecDepth 100000 in
theorem mX_init (l : Launch) (D : va_G) (h0 sz : Nat) : Met l yX0_init (ws_ yX0_init cX0_init 1 none) ({ frames := 1, cells := 5, slots := 116, locals := 12 } : Room) (va_Pc [.ref h0] (cz_pre D [] [(h0, .inr (0, [.int (nI 0), .null, .null, .null, .int (nI 0), .null, .null, .int (nI 0)]))] sz)) (va_Qv (fun u : Nat × Nat × Nat × Nat × Nat × ClassId × ClassId × ClassId × ClassId × ClassId × (Nat → Int32) × (Nat → Int32) => (u.2.2.2.2.2.2.2.2.2.2.1) 0 = -1 ∧ (u.2.2.2.2.2.2.2.2.2.2.2) 0 = nI 1) (fun u => cz_post D (TYX (u.2.2.2.2.2.1) (u.2.2.2.2.2.2.1) (u.2.2.2.2.2.2.2.1) (u.2.2.2.2.2.2.2.2.1) (u.2.2.2.2.2.2.2.2.2.1)) (va_A [(h0, .inr (0, [.int (nI 0), .null, .null, .null, .int (nI 0), .null, .null, .int (nI 0)]))] sz) (XW h0 (u.1) (u.2.1) (u.2.2.1) (u.2.2.2.1) (u.2.2.2.2.1) (u.2.2.2.2.2.1) (u.2.2.2.2.2.2.1) (u.2.2.2.2.2.2.2.1) (u.2.2.2.2.2.2.2.2.1) (u.2.2.2.2.2.2.2.2.2.1) 0 (fun _ => nI 0) (fun _ => nI 0) (fun _ => nI 0) 1 (u.2.2.2.2.2.2.2.2.2.2.1) (u.2.2.2.2.2.2.2.2.2.2.2) (nI 0))) (va_A [(h0, .inr (0, [.int (nI 0), .null, .null, .null, .int (nI 0), .null, .null, .int (nI 0)]))] sz)) 5 116 (va_A [(h0, .inr (0, [.int (nI 0), .null, .null, .null, .int (nI 0), .null, .null, .int (nI 0)]))] sz) := by
  refine Met.ofW (cc := cX0_init) (maxL := 1) (ret := none) (by decide) rfl ?_
  intro p e s m args below meth c s₁ B hml hv
  obtain ⟨rfl, hsz, hP, hK, hD0⟩ := hv
  have hx := B.exec
  have hb := B.bytes
  have hret := B.returns
  have hts := atoms_spec (ws := ws_ yX0_init cX0_init 1 none) B.pre
  have hts : ∀ w ∈ lw_all, w.before _ s = true := fun w h => hts w (List.mem_cons_of_mem _ h)
  have hown : s.vm.findClass RX0 = some m.cls := findClass_of_methodNamed B.named
  have hlocks := B.notSynchronized
  have hin : meth.name = "<init>" := (name_of_methodNamed B.named B.method).1
  subst hsz
  have hD := hD0.self (sz := s.heap.size)
  generalize hAe : va_A [(h0, .inr (0, [.int (nI 0), .null, .null, .null, .int (nI 0), .null, .null, .int (nI 0)]))] s.heap.size = A at hD ⊢
  have hA : ∀ q : Nat, s.heap.size ≤ q → A q := fun q h => by rw [← hAe]; exact Or.inr h
  have hS : va_S A s.heap s.heap [] := va_S.rf
  have hl := lv_entry ([.ref h0]) (n := 1) (Nat.le_of_ble_eq_true rfl)
  rw [lg_entry_eq]
  generalize (lg_sl ([.ref h0]) ++ List.replicate (1 - (lg_sl ([.ref h0])).length) Slot.unset).toArray = ls at hl ⊢
  have hl : lv_has ls 1 [(0, .ref h0)] := hl
  refine lv_aload_n hx hb dX0_init_0 rfl (lv_at hl 0 rfl) ?_
  refine W.objInit hx hb hown (hts _ q18) (hts _ q19) (hts _ q20) rfl (by rw [hml]; exact hl.1) rfl dX0_init_1 (Nat.le_of_ble_eq_true rfl) (Nat.le_of_ble_eq_true rfl) ?_
  refine W.eq (g2 := F0 m 4 ls []) rfl ?_
  refine lv_aload_n hx hb dX0_init_4 rfl (lv_at hl 0 rfl) ?_
  refine lv_bipush (v := nI 30) hx hb dX0_init_5 (by decide +kernel) ?_
  refine va_newa (N' := 30) (a0 := (30, .inl (fun _ => nI 0))) (atype := .byte) (ty := .byte) hx hb (hts _ q46) rfl hK hP hD hS hA (fun _ => rfl) (by decide +kernel) (by decide +kernel) (by decide +kernel) (Nat.le_of_ble_eq_true rfl) (Nat.le_of_ble_eq_true rfl) dX0_init_7 (fun h1 d1 H hK hP hD hS => ?_)
  have hP : va_P D vwCl [(h0, .inr (0, [.int (nI 0), .null, .null, .null, .int (nI 0), .null, .null, .int (nI 0)])), (h1, .inl (d1, 30, .inl (fun _ => nI 0)))] H := hP
  have hD : va_D A [(h0, .inr (0, [.int (nI 0), .null, .null, .null, .int (nI 0), .null, .null, .int (nI 0)])), (h1, .inl (d1, 30, .inl (fun _ => nI 0)))] := hD
  have hK : va_K D vwCl [(d1, .byte)] s := hK
  refine W.widen (k := 1) (n := 30) (Nat.le_of_ble_eq_true rfl) (Nat.le_of_ble_eq_true rfl) ?_
  refine va_putF (D := D) (ci := 0) (v := .ref h1) (ty := .array .byte) (C := RX0) (T := TX0) (N := 8) hx hb hts in_X0 tyX0 tyX0_ok nmX0 hown hK hP hD hS 0 rfl rfl 1 (by decide) (hts _ q22) (fun _ h9 => h9) rfl hin rfl (by decide +kernel) rfl rfl (Nat.le_of_ble_eq_true rfl) dX0_init_9 (fun H locs hP hD hS => ?_)
  have hP : va_P D vwCl [(h0, .inr (0, [.int (nI 0), .ref h1, .null, .null, .int (nI 0), .null, .null, .int (nI 0)])), (h1, .inl (d1, 30, .inl (fun _ => nI 0)))] H := hP
  have hD : va_D A [(h0, .inr (0, [.int (nI 0), .ref h1, .null, .null, .int (nI 0), .null, .null, .int (nI 0)])), (h1, .inl (d1, 30, .inl (fun _ => nI 0)))] := hD
  refine lv_aload_n hx hb dX0_init_12 rfl (lv_at hl 0 rfl) ?_
  refine lv_bipush (v := nI 30) hx hb dX0_init_13 (by decide +kernel) ?_
  refine va_newa (N' := 30) (a0 := (30, .inl (fun _ => nI 0))) (atype := .byte) (ty := .byte) hx hb (hts _ q46) rfl hK hP hD hS hA (fun _ => rfl) (by decide +kernel) (by decide +kernel) (by decide +kernel) (Nat.le_of_ble_eq_true rfl) (Nat.le_of_ble_eq_true rfl) dX0_init_15 (fun h2 d2 H hK hP hD hS => ?_)
  have hP : va_P D vwCl [(h0, .inr (0, [.int (nI 0), .ref h1, .null, .null, .int (nI 0), .null, .null, .int (nI 0)])), (h1, .inl (d1, 30, .inl (fun _ => nI 0))), (h2, .inl (d2, 30, .inl (fun _ => nI 0)))] H := hP
  have hD : va_D A [(h0, .inr (0, [.int (nI 0), .ref h1, .null, .null, .int (nI 0), .null, .null, .int (nI 0)])), (h1, .inl (d1, 30, .inl (fun _ => nI 0))), (h2, .inl (d2, 30, .inl (fun _ => nI 0)))] := hD
  have hK : va_K D vwCl [(d1, .byte), (d2, .byte)] s := hK
  refine W.widen (k := 2) (n := 60) (Nat.le_of_ble_eq_true rfl) (Nat.le_of_ble_eq_true rfl) ?_
  refine va_putF (D := D) (ci := 0) (v := .ref h2) (ty := .array .byte) (C := RX0) (T := TX0) (N := 8) hx hb hts in_X0 tyX0 tyX0_ok nmX0 hown hK hP hD hS 0 rfl rfl 2 (by decide) (hts _ q23) (fun _ h9 => h9) rfl hin rfl (by decide +kernel) rfl rfl (Nat.le_of_ble_eq_true rfl) dX0_init_17 (fun H locs hP hD hS => ?_)
  have hP : va_P D vwCl [(h0, .inr (0, [.int (nI 0), .ref h1, .ref h2, .null, .int (nI 0), .null, .null, .int (nI 0)])), (h1, .inl (d1, 30, .inl (fun _ => nI 0))), (h2, .inl (d2, 30, .inl (fun _ => nI 0)))] H := hP
  have hD : va_D A [(h0, .inr (0, [.int (nI 0), .ref h1, .ref h2, .null, .int (nI 0), .null, .null, .int (nI 0)])), (h1, .inl (d1, 30, .inl (fun _ => nI 0))), (h2, .inl (d2, 30, .inl (fun _ => nI 0)))] := hD
  refine lv_aload_n hx hb dX0_init_20 rfl (lv_at hl 0 rfl) ?_
  refine lv_bipush (v := nI 30) hx hb dX0_init_21 (by decide +kernel) ?_
  refine va_newa (N' := 30) (a0 := (30, .inl (fun _ => nI 0))) (atype := .short) (ty := .short) hx hb (hts _ q47) rfl hK hP hD hS hA (fun _ => rfl) (by decide +kernel) (by decide +kernel) (by decide +kernel) (Nat.le_of_ble_eq_true rfl) (Nat.le_of_ble_eq_true rfl) dX0_init_23 (fun h3 d3 H hK hP hD hS => ?_)
  have hP : va_P D vwCl [(h0, .inr (0, [.int (nI 0), .ref h1, .ref h2, .null, .int (nI 0), .null, .null, .int (nI 0)])), (h1, .inl (d1, 30, .inl (fun _ => nI 0))), (h2, .inl (d2, 30, .inl (fun _ => nI 0))), (h3, .inl (d3, 30, .inl (fun _ => nI 0)))] H := hP
  have hD : va_D A [(h0, .inr (0, [.int (nI 0), .ref h1, .ref h2, .null, .int (nI 0), .null, .null, .int (nI 0)])), (h1, .inl (d1, 30, .inl (fun _ => nI 0))), (h2, .inl (d2, 30, .inl (fun _ => nI 0))), (h3, .inl (d3, 30, .inl (fun _ => nI 0)))] := hD
  have hK : va_K D vwCl [(d1, .byte), (d2, .byte), (d3, .short)] s := hK
  refine W.widen (k := 3) (n := 90) (Nat.le_of_ble_eq_true rfl) (Nat.le_of_ble_eq_true rfl) ?_
  refine va_putF (D := D) (ci := 0) (v := .ref h3) (ty := .array .short) (C := RX0) (T := TX0) (N := 8) hx hb hts in_X0 tyX0 tyX0_ok nmX0 hown hK hP hD hS 0 rfl rfl 3 (by decide) (hts _ q24) (fun _ h9 => h9) rfl hin rfl (by decide +kernel) rfl rfl (Nat.le_of_ble_eq_true rfl) dX0_init_25 (fun H locs hP hD hS => ?_)
  have hP : va_P D vwCl [(h0, .inr (0, [.int (nI 0), .ref h1, .ref h2, .ref h3, .int (nI 0), .null, .null, .int (nI 0)])), (h1, .inl (d1, 30, .inl (fun _ => nI 0))), (h2, .inl (d2, 30, .inl (fun _ => nI 0))), (h3, .inl (d3, 30, .inl (fun _ => nI 0)))] H := hP
  have hD : va_D A [(h0, .inr (0, [.int (nI 0), .ref h1, .ref h2, .ref h3, .int (nI 0), .null, .null, .int (nI 0)])), (h1, .inl (d1, 30, .inl (fun _ => nI 0))), (h2, .inl (d2, 30, .inl (fun _ => nI 0))), (h3, .inl (d3, 30, .inl (fun _ => nI 0)))] := hD
  refine lv_aload_n hx hb dX0_init_28 rfl (lv_at hl 0 rfl) ?_
  refine lv_iconst (v := nI 1) hx hb dX0_init_29 (by decide +kernel) ?_
  refine va_put (D := D) (ci := 0) (v := .int (nI 1)) (ty := .int) (C := RX0) (T := TX0) (N := 8) hx hb hts in_X0 tyX0 tyX0_ok nmX0 hown hK hP hD hS 0 rfl rfl 4 (by decide) (hts _ q25) (fun _ h9 => h9) rfl (by decide +kernel) rfl rfl (Nat.le_of_ble_eq_true rfl) dX0_init_30 (fun H locs hP hD hS => ?_)
  have hP : va_P D vwCl [(h0, .inr (0, [.int (nI 0), .ref h1, .ref h2, .ref h3, .int (nI 1), .null, .null, .int (nI 0)])), (h1, .inl (d1, 30, .inl (fun _ => nI 0))), (h2, .inl (d2, 30, .inl (fun _ => nI 0))), (h3, .inl (d3, 30, .inl (fun _ => nI 0)))] H := hP
  have hD : va_D A [(h0, .inr (0, [.int (nI 0), .ref h1, .ref h2, .ref h3, .int (nI 1), .null, .null, .int (nI 0)])), (h1, .inl (d1, 30, .inl (fun _ => nI 0))), (h2, .inl (d2, 30, .inl (fun _ => nI 0))), (h3, .inl (d3, 30, .inl (fun _ => nI 0)))] := hD
  refine lv_aload_n hx hb dX0_init_33 rfl (lv_at hl 0 rfl) ?_
  refine lv_bipush (v := nI 13) hx hb dX0_init_34 (by decide +kernel) ?_
  refine va_newa (N' := 13) (a0 := (13, .inl (fun _ => nI 0))) (atype := .byte) (ty := .byte) hx hb (hts _ q46) rfl hK hP hD hS hA (fun _ => rfl) (by decide +kernel) (by decide +kernel) (by decide +kernel) (Nat.le_of_ble_eq_true rfl) (Nat.le_of_ble_eq_true rfl) dX0_init_36 (fun h4 d4 H hK hP hD hS => ?_)
  have hP : va_P D vwCl [(h0, .inr (0, [.int (nI 0), .ref h1, .ref h2, .ref h3, .int (nI 1), .null, .null, .int (nI 0)])), (h1, .inl (d1, 30, .inl (fun _ => nI 0))), (h2, .inl (d2, 30, .inl (fun _ => nI 0))), (h3, .inl (d3, 30, .inl (fun _ => nI 0))), (h4, .inl (d4, 13, .inl (fun _ => nI 0)))] H := hP
  have hD : va_D A [(h0, .inr (0, [.int (nI 0), .ref h1, .ref h2, .ref h3, .int (nI 1), .null, .null, .int (nI 0)])), (h1, .inl (d1, 30, .inl (fun _ => nI 0))), (h2, .inl (d2, 30, .inl (fun _ => nI 0))), (h3, .inl (d3, 30, .inl (fun _ => nI 0))), (h4, .inl (d4, 13, .inl (fun _ => nI 0)))] := hD
  have hK : va_K D vwCl [(d1, .byte), (d2, .byte), (d3, .short), (d4, .byte)] s := hK
  refine W.widen (k := 4) (n := 103) (Nat.le_of_ble_eq_true rfl) (Nat.le_of_ble_eq_true rfl) ?_
  refine va_putF (D := D) (ci := 0) (v := .ref h4) (ty := .array .byte) (C := RX0) (T := TX0) (N := 8) hx hb hts in_X0 tyX0 tyX0_ok nmX0 hown hK hP hD hS 0 rfl rfl 5 (by decide) (hts _ q26) (fun _ h9 => h9) rfl hin rfl (by decide +kernel) rfl rfl (Nat.le_of_ble_eq_true rfl) dX0_init_38 (fun H locs hP hD hS => ?_)
  have hP : va_P D vwCl [(h0, .inr (0, [.int (nI 0), .ref h1, .ref h2, .ref h3, .int (nI 1), .ref h4, .null, .int (nI 0)])), (h1, .inl (d1, 30, .inl (fun _ => nI 0))), (h2, .inl (d2, 30, .inl (fun _ => nI 0))), (h3, .inl (d3, 30, .inl (fun _ => nI 0))), (h4, .inl (d4, 13, .inl (fun _ => nI 0)))] H := hP
  have hD : va_D A [(h0, .inr (0, [.int (nI 0), .ref h1, .ref h2, .ref h3, .int (nI 1), .ref h4, .null, .int (nI 0)])), (h1, .inl (d1, 30, .inl (fun _ => nI 0))), (h2, .inl (d2, 30, .inl (fun _ => nI 0))), (h3, .inl (d3, 30, .inl (fun _ => nI 0))), (h4, .inl (d4, 13, .inl (fun _ => nI 0)))] := hD
  refine lv_aload_n hx hb dX0_init_41 rfl (lv_at hl 0 rfl) ?_
  refine lv_bipush (v := nI 13) hx hb dX0_init_42 (by decide +kernel) ?_
  refine va_newa (N' := 13) (a0 := (13, .inl (fun _ => nI 0))) (atype := .short) (ty := .short) hx hb (hts _ q47) rfl hK hP hD hS hA (fun _ => rfl) (by decide +kernel) (by decide +kernel) (by decide +kernel) (Nat.le_of_ble_eq_true rfl) (Nat.le_of_ble_eq_true rfl) dX0_init_44 (fun h5 d5 H hK hP hD hS => ?_)
  have hP : va_P D vwCl [(h0, .inr (0, [.int (nI 0), .ref h1, .ref h2, .ref h3, .int (nI 1), .ref h4, .null, .int (nI 0)])), (h1, .inl (d1, 30, .inl (fun _ => nI 0))), (h2, .inl (d2, 30, .inl (fun _ => nI 0))), (h3, .inl (d3, 30, .inl (fun _ => nI 0))), (h4, .inl (d4, 13, .inl (fun _ => nI 0))), (h5, .inl (d5, 13, .inl (fun _ => nI 0)))] H := hP
  have hD : va_D A [(h0, .inr (0, [.int (nI 0), .ref h1, .ref h2, .ref h3, .int (nI 1), .ref h4, .null, .int (nI 0)])), (h1, .inl (d1, 30, .inl (fun _ => nI 0))), (h2, .inl (d2, 30, .inl (fun _ => nI 0))), (h3, .inl (d3, 30, .inl (fun _ => nI 0))), (h4, .inl (d4, 13, .inl (fun _ => nI 0))), (h5, .inl (d5, 13, .inl (fun _ => nI 0)))] := hD
  have hK : va_K D vwCl [(d1, .byte), (d2, .byte), (d3, .short), (d4, .byte), (d5, .short)] s := hK
  refine W.widen (k := 5) (n := 116) (Nat.le_of_ble_eq_true rfl) (Nat.le_of_ble_eq_true rfl) ?_
  refine va_putF (D := D) (ci := 0) (v := .ref h5) (ty := .array .short) (C := RX0) (T := TX0) (N := 8) hx hb hts in_X0 tyX0 tyX0_ok nmX0 hown hK hP hD hS 0 rfl rfl 6 (by decide) (hts _ q27) (fun _ h9 => h9) rfl hin rfl (by decide +kernel) rfl rfl (Nat.le_of_ble_eq_true rfl) dX0_init_46 (fun H locs hP hD hS => ?_)
  have hP : va_P D vwCl [(h0, .inr (0, [.int (nI 0), .ref h1, .ref h2, .ref h3, .int (nI 1), .ref h4, .ref h5, .int (nI 0)])), (h1, .inl (d1, 30, .inl (fun _ => nI 0))), (h2, .inl (d2, 30, .inl (fun _ => nI 0))), (h3, .inl (d3, 30, .inl (fun _ => nI 0))), (h4, .inl (d4, 13, .inl (fun _ => nI 0))), (h5, .inl (d5, 13, .inl (fun _ => nI 0)))] H := hP
  have hD : va_D A [(h0, .inr (0, [.int (nI 0), .ref h1, .ref h2, .ref h3, .int (nI 1), .ref h4, .ref h5, .int (nI 0)])), (h1, .inl (d1, 30, .inl (fun _ => nI 0))), (h2, .inl (d2, 30, .inl (fun _ => nI 0))), (h3, .inl (d3, 30, .inl (fun _ => nI 0))), (h4, .inl (d4, 13, .inl (fun _ => nI 0))), (h5, .inl (d5, 13, .inl (fun _ => nI 0)))] := hD
  have hP : va_P D vwCl (XW h0 h1 h2 h3 h4 h5 d1 d2 d3 d4 d5 0 ((fun _ => nI 0)) ((fun _ => nI 0)) ((fun _ => nI 0)) 1 ((fun _ => nI 0)) ((fun _ => nI 0)) ((nI 0))) H := hP
  have hD : va_D A (XW h0 h1 h2 h3 h4 h5 d1 d2 d3 d4 d5 0 ((fun _ => nI 0)) ((fun _ => nI 0)) ((fun _ => nI 0)) 1 ((fun _ => nI 0)) ((fun _ => nI 0)) ((nI 0))) := hD
  have hK : va_K D vwCl (TYX d1 d2 d3 d4 d5) s := hK
  refine lv_aload_n hx hb dX0_init_49 rfl (lv_at hl 0 rfl) ?_
  refine gX_bases hx hb hts hown hK hP dX0_init_50 ?_
  refine lv_iconst (v := nI 0) hx hb dX0_init_53 (by decide +kernel) ?_
  refine lv_iconst (v := -1) hx hb dX0_init_54 (by decide +kernel) ?_
  refine sX_bases hx hb hK hP hD hS (i := 0) (x2 := -1) ((vp_nar_byte _).trans (by decide +kernel)) (by omega) dX0_init_55 (fun ba_1 H locs ba_1a ba_1b hP hD hS => ?_)
  refine lv_aload_n hx hb dX0_init_56 rfl (lv_at hl 0 rfl) ?_
  refine gX_lineage hx hb hts hown hK hP dX0_init_57 ?_
  refine lv_iconst (v := nI 0) hx hb dX0_init_60 (by decide +kernel) ?_
  refine lv_iconst (v := nI 1) hx hb dX0_init_61 (by decide +kernel) ?_
  refine sX_lineage hx hb hK hP hD hS (i := 0) (x2 := nI 1) ((vp_nar_short _).trans (by decide +kernel)) (by omega) dX0_init_62 (fun li_2 H locs li_2a li_2b hP hD hS => ?_)
  exact W.vret hx hb hret (fun t ht hW => ⟨⟨(h1, h2, h3, h4, h5, d1, d2, d3, d4, d5, ba_1, li_2), rfl, ⟨ba_1a, li_2a⟩, ⟨by rw [ht]; exact hP, va_K.moved hW.alike hK, hD⟩⟩, hS.F ht⟩) hS.2.2 dX0_init_63
set_option maxHeartbeats 4000000 in
set_option maxRecDepth 100000 in
theorem mM_init (l : Launch) (D : va_G) (g0 sz : Nat) : Met l yX1_init (ws_ yX1_init cX1_init 1 none) ({ frames := 1, cells := 6, slots := 240, locals := 12 } : Room) (va_Pc [.ref g0] (cz_pre D [] [(g0, .inr (1, [.int (nI 0), .null, .null, .null, .int (nI 0), .null, .null, .int (nI 0), .int (nI 0), .int (nI 0), .int (nI 0), .null]))] sz)) (va_Qv (fun u : Nat × Nat × Nat × Nat × Nat × Nat × ClassId × ClassId × ClassId × ClassId × ClassId × ClassId × (Nat → Int32) => (u.2.2.2.2.2.2.2.2.2.2.2.2) 0 = -1) (fun u => cz_post D (TYM (u.2.2.2.2.2.2.1) (u.2.2.2.2.2.2.2.1) (u.2.2.2.2.2.2.2.2.1) (u.2.2.2.2.2.2.2.2.2.1) (u.2.2.2.2.2.2.2.2.2.2.1) (u.2.2.2.2.2.2.2.2.2.2.2.1)) (va_A [(g0, .inr (1, [.int (nI 0), .null, .null, .null, .int (nI 0), .null, .null, .int (nI 0), .int (nI 0), .int (nI 0), .int (nI 0), .null]))] sz) (MW g0 (u.1) (u.2.1) (u.2.2.1) (u.2.2.2.1) (u.2.2.2.2.1) (u.2.2.2.2.2.1) (u.2.2.2.2.2.2.1) (u.2.2.2.2.2.2.2.1) (u.2.2.2.2.2.2.2.2.1) (u.2.2.2.2.2.2.2.2.2.1) (u.2.2.2.2.2.2.2.2.2.2.1) (u.2.2.2.2.2.2.2.2.2.2.2.1) 1 (fun _ => nI 0) (u.2.2.2.2.2.2.2.2.2.2.2.2) (fun _ => nI 0) 0 (fun _ => nI 0) (fun _ => nI 0) (nI 0) (nI 0) 0 0 (fun _ => nI 0))) (va_A [(g0, .inr (1, [.int (nI 0), .null, .null, .null, .int (nI 0), .null, .null, .int (nI 0), .int (nI 0), .int (nI 0), .int (nI 0), .null]))] sz)) 6 240 (va_A [(g0, .inr (1, [.int (nI 0), .null, .null, .null, .int (nI 0), .null, .null, .int (nI 0), .int (nI 0), .int (nI 0), .int (nI 0), .null]))] sz) := by
  refine Met.ofW (cc := cX1_init) (maxL := 1) (ret := none) (by decide) rfl ?_
  intro p e s m args below meth c s₁ B hml hv
  obtain ⟨rfl, hsz, hP, hK, hD0⟩ := hv
  have hx := B.exec
  have hb := B.bytes
  have hret := B.returns
  have hts := atoms_spec (ws := ws_ yX1_init cX1_init 1 none) B.pre
  have hts : ∀ w ∈ lw_all, w.before _ s = true := fun w h => hts w (List.mem_cons_of_mem _ h)
  have hown : s.vm.findClass RX1 = some m.cls := findClass_of_methodNamed B.named
  have hlocks := B.notSynchronized
  have hin : meth.name = "<init>" := (name_of_methodNamed B.named B.method).1
  subst hsz
  have hD := hD0.self (sz := s.heap.size)
  generalize hAe : va_A [(g0, .inr (1, [.int (nI 0), .null, .null, .null, .int (nI 0), .null, .null, .int (nI 0), .int (nI 0), .int (nI 0), .int (nI 0), .null]))] s.heap.size = A at hD ⊢
  have hA : ∀ q : Nat, s.heap.size ≤ q → A q := fun q h => by rw [← hAe]; exact Or.inr h
  have hS : va_S A s.heap s.heap [] := va_S.rf
  have hl := lv_entry ([.ref g0]) (n := 1) (Nat.le_of_ble_eq_true rfl)
  rw [lg_entry_eq]
  generalize (lg_sl ([.ref g0]) ++ List.replicate (1 - (lg_sl ([.ref g0])).length) Slot.unset).toArray = ls at hl ⊢
  have hl : lv_has ls 1 [(0, .ref g0)] := hl
  refine lv_aload_n hx hb dX1_init_0 rfl (lv_at hl 0 rfl) ?_
  refine W.objInit hx hb hown (hts _ q141) (hts _ q19) (hts _ q20) rfl (by rw [hml]; exact hl.1) rfl dX1_init_1 (Nat.le_of_ble_eq_true rfl) (Nat.le_of_ble_eq_true rfl) ?_
  refine W.eq (g2 := F0 m 4 ls []) rfl ?_
  refine lv_aload_n hx hb dX1_init_4 rfl (lv_at hl 0 rfl) ?_
  refine lv_bipush (v := nI 12) hx hb dX1_init_5 (by decide +kernel) ?_
  refine va_newa (N' := 12) (a0 := (12, .inl (fun _ => nI 0))) (atype := .int) (ty := .int) hx hb (hts _ q179) rfl hK hP hD hS hA (fun _ => rfl) (by decide +kernel) (by decide +kernel) (by decide +kernel) (Nat.le_of_ble_eq_true rfl) (Nat.le_of_ble_eq_true rfl) dX1_init_7 (fun g1 e1 H hK hP hD hS => ?_)
  have hP : va_P D vwCl [(g0, .inr (1, [.int (nI 0), .null, .null, .null, .int (nI 0), .null, .null, .int (nI 0), .int (nI 0), .int (nI 0), .int (nI 0), .null])), (g1, .inl (e1, 12, .inl (fun _ => nI 0)))] H := hP
  have hD : va_D A [(g0, .inr (1, [.int (nI 0), .null, .null, .null, .int (nI 0), .null, .null, .int (nI 0), .int (nI 0), .int (nI 0), .int (nI 0), .null])), (g1, .inl (e1, 12, .inl (fun _ => nI 0)))] := hD
  have hK : va_K D vwCl [(e1, .int)] s := hK
  refine W.widen (k := 1) (n := 12) (Nat.le_of_ble_eq_true rfl) (Nat.le_of_ble_eq_true rfl) ?_
  refine va_put (D := D) (ci := 1) (v := .ref g1) (ty := .array .int) (C := RX1) (T := TX1) (N := 12) hx hb hts in_X1 tyX1 tyX1_ok nmX1 hown hK hP hD hS 0 rfl rfl 1 (by decide) (hts _ q143) (fun _ h9 => h9) rfl (by decide +kernel) rfl rfl (Nat.le_of_ble_eq_true rfl) dX1_init_9 (fun H locs hP hD hS => ?_)
  have hP : va_P D vwCl [(g0, .inr (1, [.int (nI 0), .ref g1, .null, .null, .int (nI 0), .null, .null, .int (nI 0), .int (nI 0), .int (nI 0), .int (nI 0), .null])), (g1, .inl (e1, 12, .inl (fun _ => nI 0)))] H := hP
  have hD : va_D A [(g0, .inr (1, [.int (nI 0), .ref g1, .null, .null, .int (nI 0), .null, .null, .int (nI 0), .int (nI 0), .int (nI 0), .int (nI 0), .null])), (g1, .inl (e1, 12, .inl (fun _ => nI 0)))] := hD
  refine lv_aload_n hx hb dX1_init_12 rfl (lv_at hl 0 rfl) ?_
  refine lv_bipush (v := nI 12) hx hb dX1_init_13 (by decide +kernel) ?_
  refine va_newa (N' := 12) (a0 := (12, .inl (fun _ => nI 0))) (atype := .int) (ty := .int) hx hb (hts _ q179) rfl hK hP hD hS hA (fun _ => rfl) (by decide +kernel) (by decide +kernel) (by decide +kernel) (Nat.le_of_ble_eq_true rfl) (Nat.le_of_ble_eq_true rfl) dX1_init_15 (fun g2 e2 H hK hP hD hS => ?_)
  have hP : va_P D vwCl [(g0, .inr (1, [.int (nI 0), .ref g1, .null, .null, .int (nI 0), .null, .null, .int (nI 0), .int (nI 0), .int (nI 0), .int (nI 0), .null])), (g1, .inl (e1, 12, .inl (fun _ => nI 0))), (g2, .inl (e2, 12, .inl (fun _ => nI 0)))] H := hP
  have hD : va_D A [(g0, .inr (1, [.int (nI 0), .ref g1, .null, .null, .int (nI 0), .null, .null, .int (nI 0), .int (nI 0), .int (nI 0), .int (nI 0), .null])), (g1, .inl (e1, 12, .inl (fun _ => nI 0))), (g2, .inl (e2, 12, .inl (fun _ => nI 0)))] := hD
  have hK : va_K D vwCl [(e1, .int), (e2, .int)] s := hK
  refine W.widen (k := 2) (n := 24) (Nat.le_of_ble_eq_true rfl) (Nat.le_of_ble_eq_true rfl) ?_
  refine va_put (D := D) (ci := 1) (v := .ref g2) (ty := .array .int) (C := RX1) (T := TX1) (N := 12) hx hb hts in_X1 tyX1 tyX1_ok nmX1 hown hK hP hD hS 0 rfl rfl 2 (by decide) (hts _ q144) (fun _ h9 => h9) rfl (by decide +kernel) rfl rfl (Nat.le_of_ble_eq_true rfl) dX1_init_17 (fun H locs hP hD hS => ?_)
  have hP : va_P D vwCl [(g0, .inr (1, [.int (nI 0), .ref g1, .ref g2, .null, .int (nI 0), .null, .null, .int (nI 0), .int (nI 0), .int (nI 0), .int (nI 0), .null])), (g1, .inl (e1, 12, .inl (fun _ => nI 0))), (g2, .inl (e2, 12, .inl (fun _ => nI 0)))] H := hP
  have hD : va_D A [(g0, .inr (1, [.int (nI 0), .ref g1, .ref g2, .null, .int (nI 0), .null, .null, .int (nI 0), .int (nI 0), .int (nI 0), .int (nI 0), .null])), (g1, .inl (e1, 12, .inl (fun _ => nI 0))), (g2, .inl (e2, 12, .inl (fun _ => nI 0)))] := hD
  refine lv_aload_n hx hb dX1_init_20 rfl (lv_at hl 0 rfl) ?_
  refine lv_sipush (v := nI 144) hx hb dX1_init_21 (by decide +kernel) ?_
  refine va_newa (N' := 144) (a0 := (144, .inl (fun _ => nI 0))) (atype := .int) (ty := .int) hx hb (hts _ q179) rfl hK hP hD hS hA (fun _ => rfl) (by decide +kernel) (by decide +kernel) (by decide +kernel) (Nat.le_of_ble_eq_true rfl) (Nat.le_of_ble_eq_true rfl) dX1_init_24 (fun g3 e3 H hK hP hD hS => ?_)
  have hP : va_P D vwCl [(g0, .inr (1, [.int (nI 0), .ref g1, .ref g2, .null, .int (nI 0), .null, .null, .int (nI 0), .int (nI 0), .int (nI 0), .int (nI 0), .null])), (g1, .inl (e1, 12, .inl (fun _ => nI 0))), (g2, .inl (e2, 12, .inl (fun _ => nI 0))), (g3, .inl (e3, 144, .inl (fun _ => nI 0)))] H := hP
  have hD : va_D A [(g0, .inr (1, [.int (nI 0), .ref g1, .ref g2, .null, .int (nI 0), .null, .null, .int (nI 0), .int (nI 0), .int (nI 0), .int (nI 0), .null])), (g1, .inl (e1, 12, .inl (fun _ => nI 0))), (g2, .inl (e2, 12, .inl (fun _ => nI 0))), (g3, .inl (e3, 144, .inl (fun _ => nI 0)))] := hD
  have hK : va_K D vwCl [(e1, .int), (e2, .int), (e3, .int)] s := hK
  refine W.widen (k := 3) (n := 168) (Nat.le_of_ble_eq_true rfl) (Nat.le_of_ble_eq_true rfl) ?_
  refine va_put (D := D) (ci := 1) (v := .ref g3) (ty := .array .int) (C := RX1) (T := TX1) (N := 12) hx hb hts in_X1 tyX1 tyX1_ok nmX1 hown hK hP hD hS 0 rfl rfl 3 (by decide) (hts _ q145) (fun _ h9 => h9) rfl (by decide +kernel) rfl rfl (Nat.le_of_ble_eq_true rfl) dX1_init_26 (fun H locs hP hD hS => ?_)
  have hP : va_P D vwCl [(g0, .inr (1, [.int (nI 0), .ref g1, .ref g2, .ref g3, .int (nI 0), .null, .null, .int (nI 0), .int (nI 0), .int (nI 0), .int (nI 0), .null])), (g1, .inl (e1, 12, .inl (fun _ => nI 0))), (g2, .inl (e2, 12, .inl (fun _ => nI 0))), (g3, .inl (e3, 144, .inl (fun _ => nI 0)))] H := hP
  have hD : va_D A [(g0, .inr (1, [.int (nI 0), .ref g1, .ref g2, .ref g3, .int (nI 0), .null, .null, .int (nI 0), .int (nI 0), .int (nI 0), .int (nI 0), .null])), (g1, .inl (e1, 12, .inl (fun _ => nI 0))), (g2, .inl (e2, 12, .inl (fun _ => nI 0))), (g3, .inl (e3, 144, .inl (fun _ => nI 0)))] := hD
  refine lv_aload_n hx hb dX1_init_29 rfl (lv_at hl 0 rfl) ?_
  refine lv_bipush (v := nI 30) hx hb dX1_init_30 (by decide +kernel) ?_
  refine va_newa (N' := 30) (a0 := (30, .inl (fun _ => nI 0))) (atype := .int) (ty := .int) hx hb (hts _ q179) rfl hK hP hD hS hA (fun _ => rfl) (by decide +kernel) (by decide +kernel) (by decide +kernel) (Nat.le_of_ble_eq_true rfl) (Nat.le_of_ble_eq_true rfl) dX1_init_32 (fun g4 e4 H hK hP hD hS => ?_)
  have hP : va_P D vwCl [(g0, .inr (1, [.int (nI 0), .ref g1, .ref g2, .ref g3, .int (nI 0), .null, .null, .int (nI 0), .int (nI 0), .int (nI 0), .int (nI 0), .null])), (g1, .inl (e1, 12, .inl (fun _ => nI 0))), (g2, .inl (e2, 12, .inl (fun _ => nI 0))), (g3, .inl (e3, 144, .inl (fun _ => nI 0))), (g4, .inl (e4, 30, .inl (fun _ => nI 0)))] H := hP
  have hD : va_D A [(g0, .inr (1, [.int (nI 0), .ref g1, .ref g2, .ref g3, .int (nI 0), .null, .null, .int (nI 0), .int (nI 0), .int (nI 0), .int (nI 0), .null])), (g1, .inl (e1, 12, .inl (fun _ => nI 0))), (g2, .inl (e2, 12, .inl (fun _ => nI 0))), (g3, .inl (e3, 144, .inl (fun _ => nI 0))), (g4, .inl (e4, 30, .inl (fun _ => nI 0)))] := hD
  have hK : va_K D vwCl [(e1, .int), (e2, .int), (e3, .int), (e4, .int)] s := hK
  refine W.widen (k := 4) (n := 198) (Nat.le_of_ble_eq_true rfl) (Nat.le_of_ble_eq_true rfl) ?_
  refine va_put (D := D) (ci := 1) (v := .ref g4) (ty := .array .int) (C := RX1) (T := TX1) (N := 12) hx hb hts in_X1 tyX1 tyX1_ok nmX1 hown hK hP hD hS 0 rfl rfl 5 (by decide) (hts _ q147) (fun _ h9 => h9) rfl (by decide +kernel) rfl rfl (Nat.le_of_ble_eq_true rfl) dX1_init_34 (fun H locs hP hD hS => ?_)
  have hP : va_P D vwCl [(g0, .inr (1, [.int (nI 0), .ref g1, .ref g2, .ref g3, .int (nI 0), .ref g4, .null, .int (nI 0), .int (nI 0), .int (nI 0), .int (nI 0), .null])), (g1, .inl (e1, 12, .inl (fun _ => nI 0))), (g2, .inl (e2, 12, .inl (fun _ => nI 0))), (g3, .inl (e3, 144, .inl (fun _ => nI 0))), (g4, .inl (e4, 30, .inl (fun _ => nI 0)))] H := hP
  have hD : va_D A [(g0, .inr (1, [.int (nI 0), .ref g1, .ref g2, .ref g3, .int (nI 0), .ref g4, .null, .int (nI 0), .int (nI 0), .int (nI 0), .int (nI 0), .null])), (g1, .inl (e1, 12, .inl (fun _ => nI 0))), (g2, .inl (e2, 12, .inl (fun _ => nI 0))), (g3, .inl (e3, 144, .inl (fun _ => nI 0))), (g4, .inl (e4, 30, .inl (fun _ => nI 0)))] := hD
  refine lv_aload_n hx hb dX1_init_37 rfl (lv_at hl 0 rfl) ?_
  refine lv_bipush (v := nI 30) hx hb dX1_init_38 (by decide +kernel) ?_
  refine va_newa (N' := 30) (a0 := (30, .inl (fun _ => nI 0))) (atype := .int) (ty := .int) hx hb (hts _ q179) rfl hK hP hD hS hA (fun _ => rfl) (by decide +kernel) (by decide +kernel) (by decide +kernel) (Nat.le_of_ble_eq_true rfl) (Nat.le_of_ble_eq_true rfl) dX1_init_40 (fun g5 e5 H hK hP hD hS => ?_)
  have hP : va_P D vwCl [(g0, .inr (1, [.int (nI 0), .ref g1, .ref g2, .ref g3, .int (nI 0), .ref g4, .null, .int (nI 0), .int (nI 0), .int (nI 0), .int (nI 0), .null])), (g1, .inl (e1, 12, .inl (fun _ => nI 0))), (g2, .inl (e2, 12, .inl (fun _ => nI 0))), (g3, .inl (e3, 144, .inl (fun _ => nI 0))), (g4, .inl (e4, 30, .inl (fun _ => nI 0))), (g5, .inl (e5, 30, .inl (fun _ => nI 0)))] H := hP
  have hD : va_D A [(g0, .inr (1, [.int (nI 0), .ref g1, .ref g2, .ref g3, .int (nI 0), .ref g4, .null, .int (nI 0), .int (nI 0), .int (nI 0), .int (nI 0), .null])), (g1, .inl (e1, 12, .inl (fun _ => nI 0))), (g2, .inl (e2, 12, .inl (fun _ => nI 0))), (g3, .inl (e3, 144, .inl (fun _ => nI 0))), (g4, .inl (e4, 30, .inl (fun _ => nI 0))), (g5, .inl (e5, 30, .inl (fun _ => nI 0)))] := hD
  have hK : va_K D vwCl [(e1, .int), (e2, .int), (e3, .int), (e4, .int), (e5, .int)] s := hK
  refine W.widen (k := 5) (n := 228) (Nat.le_of_ble_eq_true rfl) (Nat.le_of_ble_eq_true rfl) ?_
  refine va_put (D := D) (ci := 1) (v := .ref g5) (ty := .array .int) (C := RX1) (T := TX1) (N := 12) hx hb hts in_X1 tyX1 tyX1_ok nmX1 hown hK hP hD hS 0 rfl rfl 6 (by decide) (hts _ q148) (fun _ h9 => h9) rfl (by decide +kernel) rfl rfl (Nat.le_of_ble_eq_true rfl) dX1_init_42 (fun H locs hP hD hS => ?_)
  have hP : va_P D vwCl [(g0, .inr (1, [.int (nI 0), .ref g1, .ref g2, .ref g3, .int (nI 0), .ref g4, .ref g5, .int (nI 0), .int (nI 0), .int (nI 0), .int (nI 0), .null])), (g1, .inl (e1, 12, .inl (fun _ => nI 0))), (g2, .inl (e2, 12, .inl (fun _ => nI 0))), (g3, .inl (e3, 144, .inl (fun _ => nI 0))), (g4, .inl (e4, 30, .inl (fun _ => nI 0))), (g5, .inl (e5, 30, .inl (fun _ => nI 0)))] H := hP
  have hD : va_D A [(g0, .inr (1, [.int (nI 0), .ref g1, .ref g2, .ref g3, .int (nI 0), .ref g4, .ref g5, .int (nI 0), .int (nI 0), .int (nI 0), .int (nI 0), .null])), (g1, .inl (e1, 12, .inl (fun _ => nI 0))), (g2, .inl (e2, 12, .inl (fun _ => nI 0))), (g3, .inl (e3, 144, .inl (fun _ => nI 0))), (g4, .inl (e4, 30, .inl (fun _ => nI 0))), (g5, .inl (e5, 30, .inl (fun _ => nI 0)))] := hD
  refine lv_aload_n hx hb dX1_init_45 rfl (lv_at hl 0 rfl) ?_
  refine lv_bipush (v := nI 12) hx hb dX1_init_46 (by decide +kernel) ?_
  refine va_newa (N' := 12) (a0 := (12, .inl (fun _ => nI 0))) (atype := .int) (ty := .int) hx hb (hts _ q179) rfl hK hP hD hS hA (fun _ => rfl) (by decide +kernel) (by decide +kernel) (by decide +kernel) (Nat.le_of_ble_eq_true rfl) (Nat.le_of_ble_eq_true rfl) dX1_init_48 (fun g6 e6 H hK hP hD hS => ?_)
  have hP : va_P D vwCl [(g0, .inr (1, [.int (nI 0), .ref g1, .ref g2, .ref g3, .int (nI 0), .ref g4, .ref g5, .int (nI 0), .int (nI 0), .int (nI 0), .int (nI 0), .null])), (g1, .inl (e1, 12, .inl (fun _ => nI 0))), (g2, .inl (e2, 12, .inl (fun _ => nI 0))), (g3, .inl (e3, 144, .inl (fun _ => nI 0))), (g4, .inl (e4, 30, .inl (fun _ => nI 0))), (g5, .inl (e5, 30, .inl (fun _ => nI 0))), (g6, .inl (e6, 12, .inl (fun _ => nI 0)))] H := hP
  have hD : va_D A [(g0, .inr (1, [.int (nI 0), .ref g1, .ref g2, .ref g3, .int (nI 0), .ref g4, .ref g5, .int (nI 0), .int (nI 0), .int (nI 0), .int (nI 0), .null])), (g1, .inl (e1, 12, .inl (fun _ => nI 0))), (g2, .inl (e2, 12, .inl (fun _ => nI 0))), (g3, .inl (e3, 144, .inl (fun _ => nI 0))), (g4, .inl (e4, 30, .inl (fun _ => nI 0))), (g5, .inl (e5, 30, .inl (fun _ => nI 0))), (g6, .inl (e6, 12, .inl (fun _ => nI 0)))] := hD
  have hK : va_K D vwCl [(e1, .int), (e2, .int), (e3, .int), (e4, .int), (e5, .int), (e6, .int)] s := hK
  refine W.widen (k := 6) (n := 240) (Nat.le_of_ble_eq_true rfl) (Nat.le_of_ble_eq_true rfl) ?_
  refine va_put (D := D) (ci := 1) (v := .ref g6) (ty := .array .int) (C := RX1) (T := TX1) (N := 12) hx hb hts in_X1 tyX1 tyX1_ok nmX1 hown hK hP hD hS 0 rfl rfl 11 (by decide) (hts _ q153) (fun _ h9 => h9) rfl (by decide +kernel) rfl rfl (Nat.le_of_ble_eq_true rfl) dX1_init_50 (fun H locs hP hD hS => ?_)
  have hP : va_P D vwCl [(g0, .inr (1, [.int (nI 0), .ref g1, .ref g2, .ref g3, .int (nI 0), .ref g4, .ref g5, .int (nI 0), .int (nI 0), .int (nI 0), .int (nI 0), .ref g6])), (g1, .inl (e1, 12, .inl (fun _ => nI 0))), (g2, .inl (e2, 12, .inl (fun _ => nI 0))), (g3, .inl (e3, 144, .inl (fun _ => nI 0))), (g4, .inl (e4, 30, .inl (fun _ => nI 0))), (g5, .inl (e5, 30, .inl (fun _ => nI 0))), (g6, .inl (e6, 12, .inl (fun _ => nI 0)))] H := hP
  have hD : va_D A [(g0, .inr (1, [.int (nI 0), .ref g1, .ref g2, .ref g3, .int (nI 0), .ref g4, .ref g5, .int (nI 0), .int (nI 0), .int (nI 0), .int (nI 0), .ref g6])), (g1, .inl (e1, 12, .inl (fun _ => nI 0))), (g2, .inl (e2, 12, .inl (fun _ => nI 0))), (g3, .inl (e3, 144, .inl (fun _ => nI 0))), (g4, .inl (e4, 30, .inl (fun _ => nI 0))), (g5, .inl (e5, 30, .inl (fun _ => nI 0))), (g6, .inl (e6, 12, .inl (fun _ => nI 0)))] := hD
  refine lv_aload_n hx hb dX1_init_53 rfl (lv_at hl 0 rfl) ?_
  refine lv_iconst (v := nI 1) hx hb dX1_init_54 (by decide +kernel) ?_
  refine va_put (D := D) (ci := 1) (v := .int (nI 1)) (ty := .int) (C := RX1) (T := TX1) (N := 12) hx hb hts in_X1 tyX1 tyX1_ok nmX1 hown hK hP hD hS 0 rfl rfl 0 (by decide) (hts _ q142) (fun _ h9 => h9) rfl (by decide +kernel) rfl rfl (Nat.le_of_ble_eq_true rfl) dX1_init_55 (fun H locs hP hD hS => ?_)
  have hP : va_P D vwCl [(g0, .inr (1, [.int (nI 1), .ref g1, .ref g2, .ref g3, .int (nI 0), .ref g4, .ref g5, .int (nI 0), .int (nI 0), .int (nI 0), .int (nI 0), .ref g6])), (g1, .inl (e1, 12, .inl (fun _ => nI 0))), (g2, .inl (e2, 12, .inl (fun _ => nI 0))), (g3, .inl (e3, 144, .inl (fun _ => nI 0))), (g4, .inl (e4, 30, .inl (fun _ => nI 0))), (g5, .inl (e5, 30, .inl (fun _ => nI 0))), (g6, .inl (e6, 12, .inl (fun _ => nI 0)))] H := hP
  have hD : va_D A [(g0, .inr (1, [.int (nI 1), .ref g1, .ref g2, .ref g3, .int (nI 0), .ref g4, .ref g5, .int (nI 0), .int (nI 0), .int (nI 0), .int (nI 0), .ref g6])), (g1, .inl (e1, 12, .inl (fun _ => nI 0))), (g2, .inl (e2, 12, .inl (fun _ => nI 0))), (g3, .inl (e3, 144, .inl (fun _ => nI 0))), (g4, .inl (e4, 30, .inl (fun _ => nI 0))), (g5, .inl (e5, 30, .inl (fun _ => nI 0))), (g6, .inl (e6, 12, .inl (fun _ => nI 0)))] := hD
  have hP : va_P D vwCl (MW g0 g1 g2 g3 g4 g5 g6 e1 e2 e3 e4 e5 e6 1 ((fun _ => nI 0)) ((fun _ => nI 0)) ((fun _ => nI 0)) 0 ((fun _ => nI 0)) ((fun _ => nI 0)) ((nI 0)) ((nI 0)) 0 0 ((fun _ => nI 0))) H := hP
  have hD : va_D A (MW g0 g1 g2 g3 g4 g5 g6 e1 e2 e3 e4 e5 e6 1 ((fun _ => nI 0)) ((fun _ => nI 0)) ((fun _ => nI 0)) 0 ((fun _ => nI 0)) ((fun _ => nI 0)) ((nI 0)) ((nI 0)) 0 0 ((fun _ => nI 0))) := hD
  have hK : va_K D vwCl (TYM e1 e2 e3 e4 e5 e6) s := hK
  refine lv_aload_n hx hb dX1_init_58 rfl (lv_at hl 0 rfl) ?_
  refine gM_bases hx hb hts hown hK hP dX1_init_59 ?_
  refine lv_iconst (v := nI 0) hx hb dX1_init_62 (by decide +kernel) ?_
  refine lv_iconst (v := -1) hx hb dX1_init_63 (by decide +kernel) ?_
  refine sM_bases hx hb hK hP hD hS (i := 0) (by omega) dX1_init_64 (fun ba_1 H locs ba_1a ba_1b hP hD hS => ?_)
  exact W.vret hx hb hret (fun t ht hW => ⟨⟨(g1, g2, g3, g4, g5, g6, e1, e2, e3, e4, e5, e6, ba_1), rfl, ba_1a, ⟨by rw [ht]; exact hP, va_K.moved hW.alike hK, hD⟩⟩, hS.F ht⟩) hS.2.2 dX1_init_65
end
section
/-! words of the reference's contracts -/
def tv (tx : Nat → Int32) (w : Nat) : Nat → Int32 := fun i => tx (12 * w + i)
def mDiscP (L : Nat) (dr : Int32) (lt : Nat) (r : Int32) (L' : Nat) (dr' : Int32) : Prop := (dr = 0 ∧ r = nI 0 ∧ L' = L ∧ dr' = dr) ∨ (¬ dr = 0 ∧ r = nI 1 ∧ L' = lt ∧ dr' = nI 0)
theorem mDisc_L {L : Nat} {dr : Int32} {lt : Nat} {r : Int32} {L' : Nat} {dr' : Int32} (h : mDiscP L dr lt r L' dr') : (dr = 0 ∧ L' = L) ∨ (¬ dr = 0 ∧ L' = lt) := by
  rcases h with ⟨a, b, c, d⟩ | ⟨a, b, c, d⟩
  · exact Or.inl ⟨a, c⟩
  · exact Or.inr ⟨a, c⟩
def mplF (N : Nat) (Z : Nat → Nat) (tx : Nat → Int32) (w n : Int32) : Int32 := if vOk N w = true then ffi (tv tx w.toNatClampNeg) n (Z w.toNatClampNeg) else -1
theorem mplF_f {N : Nat} {Z : Nat → Nat} {tx : Nat → Int32} {w n : Int32} (h : vOk N w = false) : mplF N Z tx w n = -1 := by
  unfold mplF; rw [if_neg (by rw [h]; decide)]
theorem mplF_t {N : Nat} {Z : Nat → Nat} {tx : Nat → Int32} {j : Nat} {n : Int32} (hN : N ≤ 12) (hj : j < N) : mplF N Z tx (nI j) n = ffi (tv tx j) n (Z j) := by
  unfold mplF; rw [if_pos (vOk_nI (by omega) hj), nI_clamp (by omega)]
theorem or_l (a b c : Int32) : (a ||| c) ||| b = a ||| (b ||| c) := by rw [Int32.or_assoc, Int32.or_comm c b]
theorem nI0_or (x : Int32) : nI 0 ||| x = x := by rw [Int32.or_comm]; exact or_nI0 x
theorem cbit_0 : cbit 0 = nI 1 := by decide +kernel
/-- the value at a is taken out: those behind it, up to k, moved to the front by one -/
def ctP (a k : Nat) (f g : Nat → Int32) : Prop := (∀ j, j < a → g j = f j) ∧ (∀ j, a ≤ j → j < k → g j = f (j + 1)) ∧ ∀ j, k ≤ j → g j = f j
theorem ctP_0 (a : Nat) (f : Nat → Int32) : ctP a a f f := ⟨fun _ _ => rfl, fun j h1 h2 => absurd h2 (by omega), fun _ _ => rfl⟩
theorem ctP_step {a k : Nat} {f g g2 : Nat → Int32} (ha : a ≤ k) (h : ctP a k f g) (e1 : g2 k = g (k + 1)) (e2 : ∀ j, j ≠ k → g2 j = g j) : ctP a (k + 1) f g2 := by
  refine ⟨fun j hj => ?_, fun j h1 h2 => ?_, fun j hj => ?_⟩
  · rw [e2 j (by omega)]; exact h.1 j hj
  · by_cases q : j = k
    · rw [q, e1]; exact h.2.2 (k + 1) (by omega)
    · rw [e2 j q]; exact h.2.1 j h1 (by omega)
  · rw [e2 j (by omega)]; exact h.2.2 j (by omega)
def mOpenP (N : Nat) (Z : Nat → Nat) (tx : Nat → Int32) (L : Nat) (dr fr : Int32) (lt z : Nat) (dl : Nat → Int32) (v r : Int32) (L' : Nat) (dr' fr' : Int32) (lt' z' : Nat) (dl' : Nat → Int32) : Prop :=
  (vOk N v = false ∧ r = -1 ∧ L' = L ∧ dr' = dr ∧ fr' = fr ∧ lt' = lt ∧ z' = z ∧ dl' = dl) ∨
  ∃ j, j < N ∧ v = nI j ∧ ((dr = 0 ∧ L' = L) ∨ (¬ dr = 0 ∧ L' = lt)) ∧ dr' = nI 1 ∧ fr' = nI j ∧ lt' = L' ∧ z' = Z j ∧ (∀ i, i < Z j → dl' i = tx (12 * j + i)) ∧ r = nI (Z j)
def mPutP (N L : Nat) (co ow : Nat → Int32) (dr : Int32) (z : Nat) (dl : Nat → Int32) (i x r : Int32) (L' : Nat) (co' ow' : Nat → Int32) (z' : Nat) (dl' : Nat → Int32) : Prop :=
  (putBad dr x i z ∧ r = -1 ∧ L' = L ∧ co' = co ∧ ow' = ow ∧ z' = z ∧ dl' = dl) ∨
  (¬ putBad dr x i z ∧ (12 ≤ z ∨ 30 ≤ L) ∧ r = -2 ∧ L' = L ∧ co' = co ∧ ow' = ow ∧ z' = z ∧ dl' = dl) ∨
  (¬ putBad dr x i z ∧ z < 12 ∧ L < 30 ∧ r = nI (z + 1) ∧ L' = L + 1 ∧ z' = z + 1 ∧ (∃ ii, ii ≤ z ∧ i = nI ii ∧ insP ii z dl (nI L) dl') ∧ (co' L = x ∧ ∀ k, k ≠ L → co' k = co k) ∧ (ow' L = nI N ∧ ∀ k, k ≠ L → ow' k = ow k))
def mCutP (co : Nat → Int32) (dr : Int32) (z : Nat) (dl : Nat → Int32) (i r : Int32) (z' : Nat) (dl' : Nat → Int32) : Prop :=
  (cutBad dr i z ∧ r = -1 ∧ z' = z ∧ dl' = dl) ∨
  (¬ cutBad dr i z ∧ ∃ ii, ii < z ∧ i = nI ii ∧ r = co (dl ii).toNatClampNeg ∧ z' = z - 1 ∧ (∀ j, j < ii → dl' j = dl j) ∧ ∀ j, ii ≤ j → j + 1 < z → dl' j = dl (j + 1))
def mCloseP (N : Nat) (sz ba tx : Nat → Int32) (dr fr : Int32) (z : Nat) (dl : Nat → Int32) (r : Int32) (N' : Nat) (sz' ba' tx' : Nat → Int32) (dr' : Int32) : Prop :=
  (dr = 0 ∧ r = -1 ∧ N' = N ∧ sz' = sz ∧ ba' = ba ∧ tx' = tx ∧ dr' = dr) ∨
  (¬ dr = 0 ∧ 12 ≤ N ∧ r = -2 ∧ N' = N ∧ sz' = sz ∧ ba' = ba ∧ tx' = tx ∧ dr' = dr) ∨
  (¬ dr = 0 ∧ N < 12 ∧ r = nI N ∧ N' = N + 1 ∧ (sz' N = nI z ∧ ∀ k, k ≠ N → sz' k = sz k) ∧ (ba' N = fr ∧ ∀ k, k ≠ N → ba' k = ba k) ∧ (∀ k, k < 12 * N → tx' k = tx k) ∧ (∀ k, k < z → tx' (12 * N + k) = dl k) ∧ dr' = nI 0)
end
section
/-! WeaveStoreModel: the reading methods, version, discard -/
set_option maxHeartbeats 4000000 in
set_option maxRecDepth 100000 in
theorem mM_version (l : Launch) (D : va_G) (g0 g1 g2 g3 g4 g5 g6 : Nat) (e1 e2 e3 e4 e5 e6 : ClassId) (N : Nat) (sz : Nat → Int32) (ba : Nat → Int32) (tx : Nat → Int32) (L : Nat) (co : Nat → Int32) (ow : Nat → Int32) (dr : Int32) (fr : Int32) (lt : Nat) (z : Nat) (dl : Nat → Int32) (v : Int32) (hN : N ≤ 12) : MetI l yX1_version (ws_ yX1_version cX1_version 2 (some .boolean)) zr0 D (TYM e1 e2 e3 e4 e5 e6) [.ref g0, .int v] (MW g0 g1 g2 g3 g4 g5 g6 e1 e2 e3 e4 e5 e6 N sz ba tx L co ow dr fr lt z dl) (fun r (_ : Unit) => r = bI (vOk N v)) (fun _ : Unit => MW g0 g1 g2 g3 g4 g5 g6 e1 e2 e3 e4 e5 e6 N sz ba tx L co ow dr fr lt z dl) := by
  intro sz
  refine Met.ofW (cc := cX1_version) (maxL := 2) (ret := some .boolean) (by decide) rfl ?_
  intro p e s m args below meth c s₁ B hml hv
  obtain ⟨rfl, hsz, hP, hK, hD0⟩ := hv
  have hx := B.exec
  have hb := B.bytes
  have hret := B.returns
  have hts := atoms_spec (ws := ws_ yX1_version cX1_version 2 (some .boolean)) B.pre
  have hts : ∀ w ∈ lw_all, w.before _ s = true := fun w h => hts w (List.mem_cons_of_mem _ h)
  have hown : s.vm.findClass RX1 = some m.cls := findClass_of_methodNamed B.named
  have hlocks := B.notSynchronized
  subst hsz
  have hD := hD0.self (sz := s.heap.size)
  generalize hAe : va_A (MW g0 g1 g2 g3 g4 g5 g6 e1 e2 e3 e4 e5 e6 N sz ba tx L co ow dr fr lt z dl) s.heap.size = A at hD ⊢
  have hA : ∀ q : Nat, s.heap.size ≤ q → A q := fun q h => by rw [← hAe]; exact Or.inr h
  have hS : va_S A s.heap s.heap [] := va_S.rf
  have hl := lv_entry ([.ref g0, .int v]) (n := 2) (Nat.le_of_ble_eq_true rfl)
  rw [lg_entry_eq]
  generalize (lg_sl ([.ref g0, .int v]) ++ List.replicate (2 - (lg_sl ([.ref g0, .int v])).length) Slot.unset).toArray = ls at hl ⊢
  have hl : lv_has ls 2 [(0, .ref g0), (1, .int v)] := hl
  refine lv_iload_n hx hb dX1_version_0 rfl (lv_at hl 1 rfl) ?_
  refine lv_if_lt (tgt := 16) hx hb dX1_version_1 (by decide) (fun c_1 => ?_) (fun c_1 => ?_)
  · refine lv_iconst (v := nI 0) hx hb dX1_version_16 (by decide +kernel) ?_
    exact W.zret (v := nI 0) hx hb hret (rfl) (fun t ht hW => ⟨⟨nI 0, (), rfl, (congrArg bI (vOk_f1 c_1)).symm, ⟨by rw [ht]; exact hP, va_K.moved hW.alike hK, hD⟩⟩, hS.F ht⟩) hS.2.2 dX1_version_17
  · refine lv_iload_n hx hb dX1_version_4 rfl (lv_at hl 1 rfl) ?_
    refine lv_aload_n hx hb dX1_version_5 rfl (lv_at hl 0 rfl) ?_
    refine gM_count hx hb hts hown hK hP dX1_version_6 ?_
    refine lv_icmp_ge (tgt := 16) hx hb dX1_version_9 (by decide) (fun c_9 => ?_) (fun c_9 => ?_)
    · refine lv_iconst (v := nI 0) hx hb dX1_version_16 (by decide +kernel) ?_
      exact W.zret (v := nI 0) hx hb hret (rfl) (fun t ht hW => ⟨⟨nI 0, (), rfl, (congrArg bI (vOk_f2 c_9)).symm, ⟨by rw [ht]; exact hP, va_K.moved hW.alike hK, hD⟩⟩, hS.F ht⟩) hS.2.2 dX1_version_17
    · refine lv_iconst (v := nI 1) hx hb dX1_version_12 (by decide +kernel) ?_
      refine lv_goto (tgt := 17) hx hb dX1_version_13 (by decide) ?_
      exact W.zret (v := nI 1) hx hb hret (rfl) (fun t ht hW => ⟨⟨nI 1, (), rfl, (congrArg bI (vOk_t c_1 c_9)).symm, ⟨by rw [ht]; exact hP, va_K.moved hW.alike hK, hD⟩⟩, hS.F ht⟩) hS.2.2 dX1_version_17
set_option maxHeartbeats 4000000 in
set_option maxRecDepth 100000 in
theorem mM_discard (l : Launch) (D : va_G) (g0 g1 g2 g3 g4 g5 g6 : Nat) (e1 e2 e3 e4 e5 e6 : ClassId) (N : Nat) (sz : Nat → Int32) (ba : Nat → Int32) (tx : Nat → Int32) (L : Nat) (co : Nat → Int32) (ow : Nat → Int32) (dr : Int32) (fr : Int32) (lt : Nat) (z : Nat) (dl : Nat → Int32)   : MetI l yX1_discard (ws_ yX1_discard cX1_discard 1 (some .boolean)) zr0 D (TYM e1 e2 e3 e4 e5 e6) [.ref g0] (MW g0 g1 g2 g3 g4 g5 g6 e1 e2 e3 e4 e5 e6 N sz ba tx L co ow dr fr lt z dl) (fun r (u : Nat × Int32) => mDiscP L dr lt r u.1 u.2) (fun u : Nat × Int32 => MW g0 g1 g2 g3 g4 g5 g6 e1 e2 e3 e4 e5 e6 N sz ba tx u.1 co ow u.2 fr lt z dl) := by
  intro sz
  refine Met.ofW (cc := cX1_discard) (maxL := 1) (ret := some .boolean) (by decide) rfl ?_
  intro p e s m args below meth c s₁ B hml hv
  obtain ⟨rfl, hsz, hP, hK, hD0⟩ := hv
  have hx := B.exec
  have hb := B.bytes
  have hret := B.returns
  have hts := atoms_spec (ws := ws_ yX1_discard cX1_discard 1 (some .boolean)) B.pre
  have hts : ∀ w ∈ lw_all, w.before _ s = true := fun w h => hts w (List.mem_cons_of_mem _ h)
  have hown : s.vm.findClass RX1 = some m.cls := findClass_of_methodNamed B.named
  have hlocks := B.notSynchronized
  subst hsz
  have hD := hD0.self (sz := s.heap.size)
  generalize hAe : va_A (MW g0 g1 g2 g3 g4 g5 g6 e1 e2 e3 e4 e5 e6 N sz ba tx L co ow dr fr lt z dl) s.heap.size = A at hD ⊢
  have hA : ∀ q : Nat, s.heap.size ≤ q → A q := fun q h => by rw [← hAe]; exact Or.inr h
  have hS : va_S A s.heap s.heap [] := va_S.rf
  have hl := lv_entry ([.ref g0]) (n := 1) (Nat.le_of_ble_eq_true rfl)
  rw [lg_entry_eq]
  generalize (lg_sl ([.ref g0]) ++ List.replicate (1 - (lg_sl ([.ref g0])).length) Slot.unset).toArray = ls at hl ⊢
  have hl : lv_has ls 1 [(0, .ref g0)] := hl
  refine lv_aload_n hx hb dX1_discard_0 rfl (lv_at hl 0 rfl) ?_
  refine gM_drafting hx hb hts hown hK hP dX1_discard_1 ?_
  refine lv_if_ne (tgt := 9) hx hb dX1_discard_4 (by decide) (fun c_4 => ?_) (fun c_4 => ?_)
  · refine lv_aload_n hx hb dX1_discard_9 rfl (lv_at hl 0 rfl) ?_
    refine lv_iconst (v := nI 0) hx hb dX1_discard_10 (by decide +kernel) ?_
    refine uM_drafting hx hb hts hown hK hP hD hS rfl rfl dX1_discard_11 (fun H locs hP hD hS => ?_)
    refine lv_aload_n hx hb dX1_discard_14 rfl (lv_at hl 0 rfl) ?_
    refine lv_aload_n hx hb dX1_discard_15 rfl (lv_at hl 0 rfl) ?_
    refine gM_linesThen hx hb hts hown hK hP dX1_discard_16 ?_
    refine uM_lines hx hb hts hown hK hP hD hS dX1_discard_19 (fun H locs hP hD hS => ?_)
    refine lv_iconst (v := nI 1) hx hb dX1_discard_22 (by decide +kernel) ?_
    exact W.zret (v := nI 1) hx hb hret (rfl) (fun t ht hW => ⟨⟨nI 1, (lt, nI 0), rfl, Or.inr ⟨c_4, rfl, rfl, rfl⟩, ⟨by rw [ht]; exact hP, va_K.moved hW.alike hK, hD⟩⟩, hS.F ht⟩) hS.2.2 dX1_discard_23
  · refine lv_iconst (v := nI 0) hx hb dX1_discard_7 (by decide +kernel) ?_
    exact W.zret (v := nI 0) hx hb hret (rfl) (fun t ht hW => ⟨⟨nI 0, (L, dr), rfl, Or.inl ⟨c_4, rfl, rfl, rfl⟩, ⟨by rw [ht]; exact hP, va_K.moved hW.alike hK, hD⟩⟩, hS.F ht⟩) hS.2.2 dX1_discard_8
set_option maxHeartbeats 4000000 in
set_option maxRecDepth 100000 in
theorem mM_versions (l : Launch) (D : va_G) (g0 g1 g2 g3 g4 g5 g6 : Nat) (e1 e2 e3 e4 e5 e6 : ClassId) (N : Nat) (sz : Nat → Int32) (ba : Nat → Int32) (tx : Nat → Int32) (L : Nat) (co : Nat → Int32) (ow : Nat → Int32) (dr : Int32) (fr : Int32) (lt : Nat) (z : Nat) (dl : Nat → Int32)   : MetI l yX1_versions (ws_ yX1_versions cX1_versions 1 (some .int)) zr0 D (TYM e1 e2 e3 e4 e5 e6) [.ref g0] (MW g0 g1 g2 g3 g4 g5 g6 e1 e2 e3 e4 e5 e6 N sz ba tx L co ow dr fr lt z dl) (fun r (_ : Unit) => r = nI N) (fun _ : Unit => MW g0 g1 g2 g3 g4 g5 g6 e1 e2 e3 e4 e5 e6 N sz ba tx L co ow dr fr lt z dl) := by
  intro sz
  refine Met.ofW (cc := cX1_versions) (maxL := 1) (ret := some .int) (by decide) rfl ?_
  intro p e s m args below meth c s₁ B hml hv
  obtain ⟨rfl, hsz, hP, hK, hD0⟩ := hv
  have hx := B.exec
  have hb := B.bytes
  have hret := B.returns
  have hts := atoms_spec (ws := ws_ yX1_versions cX1_versions 1 (some .int)) B.pre
  have hts : ∀ w ∈ lw_all, w.before _ s = true := fun w h => hts w (List.mem_cons_of_mem _ h)
  have hown : s.vm.findClass RX1 = some m.cls := findClass_of_methodNamed B.named
  have hlocks := B.notSynchronized
  subst hsz
  have hD := hD0.self (sz := s.heap.size)
  generalize hAe : va_A (MW g0 g1 g2 g3 g4 g5 g6 e1 e2 e3 e4 e5 e6 N sz ba tx L co ow dr fr lt z dl) s.heap.size = A at hD ⊢
  have hA : ∀ q : Nat, s.heap.size ≤ q → A q := fun q h => by rw [← hAe]; exact Or.inr h
  have hS : va_S A s.heap s.heap [] := va_S.rf
  have hl := lv_entry ([.ref g0]) (n := 1) (Nat.le_of_ble_eq_true rfl)
  rw [lg_entry_eq]
  generalize (lg_sl ([.ref g0]) ++ List.replicate (1 - (lg_sl ([.ref g0])).length) Slot.unset).toArray = ls at hl ⊢
  have hl : lv_has ls 1 [(0, .ref g0)] := hl
  refine lv_aload_n hx hb dX1_versions_0 rfl (lv_at hl 0 rfl) ?_
  refine gM_count hx hb hts hown hK hP dX1_versions_1 ?_
  exact W.iret (v := nI N) hx hb hret (fun t ht hW => ⟨⟨nI N, (), rfl, rfl, ⟨by rw [ht]; exact hP, va_K.moved hW.alike hK, hD⟩⟩, hS.F ht⟩) hS.2.2 dX1_versions_4
set_option maxHeartbeats 4000000 in
set_option maxRecDepth 100000 in
theorem mM_length (l : Launch) (D : va_G) (g0 g1 g2 g3 g4 g5 g6 : Nat) (e1 e2 e3 e4 e5 e6 : ClassId) (N : Nat) (sz : Nat → Int32) (ba : Nat → Int32) (tx : Nat → Int32) (L : Nat) (co : Nat → Int32) (ow : Nat → Int32) (dr : Int32) (fr : Int32) (lt : Nat) (z : Nat) (dl : Nat → Int32)  (Z : Nat → Nat) (hN : N ≤ 12) (hz : ∀ j, j < N → sz j = nI (Z j) ∧ Z j ≤ 12) (v : Int32) : MetI l yX1_length (ws_ yX1_length cX1_length 2 (some .int)) zr1 D (TYM e1 e2 e3 e4 e5 e6) [.ref g0, .int v] (MW g0 g1 g2 g3 g4 g5 g6 e1 e2 e3 e4 e5 e6 N sz ba tx L co ow dr fr lt z dl) (fun r (_ : Unit) => verP N v r (-1) (fun j => nI (Z j))) (fun _ : Unit => MW g0 g1 g2 g3 g4 g5 g6 e1 e2 e3 e4 e5 e6 N sz ba tx L co ow dr fr lt z dl) := by
  intro sz
  refine Met.ofW (cc := cX1_length) (maxL := 2) (ret := some .int) (by decide) rfl ?_
  intro p e s m args below meth c s₁ B hml hv
  obtain ⟨rfl, hsz, hP, hK, hD0⟩ := hv
  have hx := B.exec
  have hb := B.bytes
  have hret := B.returns
  have hts := atoms_spec (ws := ws_ yX1_length cX1_length 2 (some .int)) B.pre
  have hts : ∀ w ∈ lw_all, w.before _ s = true := fun w h => hts w (List.mem_cons_of_mem _ h)
  have hown : s.vm.findClass RX1 = some m.cls := findClass_of_methodNamed B.named
  have hlocks := B.notSynchronized
  subst hsz
  have hD := hD0.self (sz := s.heap.size)
  generalize hAe : va_A (MW g0 g1 g2 g3 g4 g5 g6 e1 e2 e3 e4 e5 e6 N sz ba tx L co ow dr fr lt z dl) s.heap.size = A at hD ⊢
  have hA : ∀ q : Nat, s.heap.size ≤ q → A q := fun q h => by rw [← hAe]; exact Or.inr h
  have hS : va_S A s.heap s.heap [] := va_S.rf
  have hl := lv_entry ([.ref g0, .int v]) (n := 2) (Nat.le_of_ble_eq_true rfl)
  rw [lg_entry_eq]
  generalize (lg_sl ([.ref g0, .int v]) ++ List.replicate (2 - (lg_sl ([.ref g0, .int v])).length) Slot.unset).toArray = ls at hl ⊢
  have hl : lv_has ls 2 [(0, .ref g0), (1, .int v)] := hl
  refine lv_aload_n hx hb dX1_length_0 rfl (lv_at hl 0 rfl) ?_
  refine lv_iload_n hx hb dX1_length_1 rfl (lv_at hl 1 rfl) ?_
  refine cz_i (As := [.int v]) (rest := []) ⟨hx, hb, hml, hown, hts⟩ (mM_version l D g0 g1 g2 g3 g4 g5 g6 e1 e2 e3 e4 e5 e6 N sz ba tx L co ow dr fr lt z dl v (by omega)) (cwV 1 hts (lw_V q184 q186 qs7 q12 q187) rfl rfl rfl (by decide +kernel) ⟨Nat.le_of_ble_eq_true rfl, Nat.le_of_ble_eq_true rfl⟩) hP hK hD hS hA (ci := 1) rfl rfl rfl rfl hl.1 rfl (Nat.le_of_ble_eq_true rfl) dX1_length_2 ⟨Nat.zero_le _, Nat.zero_le _⟩ (fun r u H locs hr hP hD hS => ?_)
  have hr : r = bI (vOk N v) := hr
  subst hr
  refine wz_b_eq (tgt := 17) hx hb dX1_length_5 (by decide) (fun c_5 => ?_) (fun c_5 => ?_)
  · refine lv_iconst (v := -1) hx hb dX1_length_17 (by decide +kernel) ?_
    exact W.iret (v := -1) hx hb hret (fun t ht hW => ⟨⟨-1, (), rfl, Or.inl ⟨c_5, rfl⟩, ⟨by rw [ht]; exact hP, va_K.moved hW.alike hK, hD⟩⟩, hS.F ht⟩) hS.2.2 dX1_length_18
  · obtain ⟨j, hj, rfl⟩ := vOk_of (by omega) c_5
    have hz_j := (hz j hj).2
    refine lv_aload_n hx hb dX1_length_8 rfl (lv_at hl 0 rfl) ?_
    refine gM_sizes hx hb hts hown hK hP dX1_length_9 ?_
    refine lv_iload_n hx hb dX1_length_12 rfl (lv_at hl 1 rfl) ?_
    refine lM_sizes hx hb hK hP (i := j) (by omega) dX1_length_13 ?_
    refine wz_top (x := sz j) (y := nI (Z j)) ((hz j hj).1) ?_
    refine lv_goto (tgt := 18) hx hb dX1_length_14 (by decide) ?_
    exact W.iret (v := nI (Z j)) hx hb hret (fun t ht hW => ⟨⟨nI (Z j), (), rfl, Or.inr ⟨j, hj, rfl, rfl⟩, ⟨by rw [ht]; exact hP, va_K.moved hW.alike hK, hD⟩⟩, hS.F ht⟩) hS.2.2 dX1_length_18
set_option maxHeartbeats 4000000 in
set_option maxRecDepth 100000 in
theorem mM_base (l : Launch) (D : va_G) (g0 g1 g2 g3 g4 g5 g6 : Nat) (e1 e2 e3 e4 e5 e6 : ClassId) (N : Nat) (sz : Nat → Int32) (ba : Nat → Int32) (tx : Nat → Int32) (L : Nat) (co : Nat → Int32) (ow : Nat → Int32) (dr : Int32) (fr : Int32) (lt : Nat) (z : Nat) (dl : Nat → Int32)  (Z : Nat → Nat) (hN : N ≤ 12) (hz : ∀ j, j < N → sz j = nI (Z j) ∧ Z j ≤ 12) (v : Int32) : MetI l yX1_base (ws_ yX1_base cX1_base 2 (some .int)) zr1 D (TYM e1 e2 e3 e4 e5 e6) [.ref g0, .int v] (MW g0 g1 g2 g3 g4 g5 g6 e1 e2 e3 e4 e5 e6 N sz ba tx L co ow dr fr lt z dl) (fun r (_ : Unit) => verP N v r (-1) (ba)) (fun _ : Unit => MW g0 g1 g2 g3 g4 g5 g6 e1 e2 e3 e4 e5 e6 N sz ba tx L co ow dr fr lt z dl) := by
  intro sz
  refine Met.ofW (cc := cX1_base) (maxL := 2) (ret := some .int) (by decide) rfl ?_
  intro p e s m args below meth c s₁ B hml hv
  obtain ⟨rfl, hsz, hP, hK, hD0⟩ := hv
  have hx := B.exec
  have hb := B.bytes
  have hret := B.returns
  have hts := atoms_spec (ws := ws_ yX1_base cX1_base 2 (some .int)) B.pre
  have hts : ∀ w ∈ lw_all, w.before _ s = true := fun w h => hts w (List.mem_cons_of_mem _ h)
  have hown : s.vm.findClass RX1 = some m.cls := findClass_of_methodNamed B.named
  have hlocks := B.notSynchronized
  subst hsz
  have hD := hD0.self (sz := s.heap.size)
  generalize hAe : va_A (MW g0 g1 g2 g3 g4 g5 g6 e1 e2 e3 e4 e5 e6 N sz ba tx L co ow dr fr lt z dl) s.heap.size = A at hD ⊢
  have hA : ∀ q : Nat, s.heap.size ≤ q → A q := fun q h => by rw [← hAe]; exact Or.inr h
  have hS : va_S A s.heap s.heap [] := va_S.rf
  have hl := lv_entry ([.ref g0, .int v]) (n := 2) (Nat.le_of_ble_eq_true rfl)
  rw [lg_entry_eq]
  generalize (lg_sl ([.ref g0, .int v]) ++ List.replicate (2 - (lg_sl ([.ref g0, .int v])).length) Slot.unset).toArray = ls at hl ⊢
  have hl : lv_has ls 2 [(0, .ref g0), (1, .int v)] := hl
  refine lv_aload_n hx hb dX1_base_0 rfl (lv_at hl 0 rfl) ?_
  refine lv_iload_n hx hb dX1_base_1 rfl (lv_at hl 1 rfl) ?_
  refine cz_i (As := [.int v]) (rest := []) ⟨hx, hb, hml, hown, hts⟩ (mM_version l D g0 g1 g2 g3 g4 g5 g6 e1 e2 e3 e4 e5 e6 N sz ba tx L co ow dr fr lt z dl v (by omega)) (cwV 1 hts (lw_V q184 q186 qs7 q12 q187) rfl rfl rfl (by decide +kernel) ⟨Nat.le_of_ble_eq_true rfl, Nat.le_of_ble_eq_true rfl⟩) hP hK hD hS hA (ci := 1) rfl rfl rfl rfl hl.1 rfl (Nat.le_of_ble_eq_true rfl) dX1_base_2 ⟨Nat.zero_le _, Nat.zero_le _⟩ (fun r u H locs hr hP hD hS => ?_)
  have hr : r = bI (vOk N v) := hr
  subst hr
  refine wz_b_eq (tgt := 17) hx hb dX1_base_5 (by decide) (fun c_5 => ?_) (fun c_5 => ?_)
  · refine lv_iconst (v := -1) hx hb dX1_base_17 (by decide +kernel) ?_
    exact W.iret (v := -1) hx hb hret (fun t ht hW => ⟨⟨-1, (), rfl, Or.inl ⟨c_5, rfl⟩, ⟨by rw [ht]; exact hP, va_K.moved hW.alike hK, hD⟩⟩, hS.F ht⟩) hS.2.2 dX1_base_18
  · obtain ⟨j, hj, rfl⟩ := vOk_of (by omega) c_5
    have hz_j := (hz j hj).2
    refine lv_aload_n hx hb dX1_base_8 rfl (lv_at hl 0 rfl) ?_
    refine gM_bases hx hb hts hown hK hP dX1_base_9 ?_
    refine lv_iload_n hx hb dX1_base_12 rfl (lv_at hl 1 rfl) ?_
    refine lM_bases hx hb hK hP (i := j) (by omega) dX1_base_13 ?_
    refine lv_goto (tgt := 18) hx hb dX1_base_14 (by decide) ?_
    exact W.iret (v := ba j) hx hb hret (fun t ht hW => ⟨⟨ba j, (), rfl, Or.inr ⟨j, hj, rfl, rfl⟩, ⟨by rw [ht]; exact hP, va_K.moved hW.alike hK, hD⟩⟩, hS.F ht⟩) hS.2.2 dX1_base_18
set_option maxHeartbeats 4000000 in
set_option maxRecDepth 100000 in
theorem mM_at (l : Launch) (D : va_G) (g0 g1 g2 g3 g4 g5 g6 : Nat) (e1 e2 e3 e4 e5 e6 : ClassId) (N : Nat) (sz : Nat → Int32) (ba : Nat → Int32) (tx : Nat → Int32) (L : Nat) (co : Nat → Int32) (ow : Nat → Int32) (dr : Int32) (fr : Int32) (lt : Nat) (z : Nat) (dl : Nat → Int32)  (Z : Nat → Nat) (hN : N ≤ 12) (hz : ∀ j, j < N → sz j = nI (Z j) ∧ Z j ≤ 12) (v i : Int32) : MetI l yX1_at (ws_ yX1_at cX1_at 3 (some .int)) zr1 D (TYM e1 e2 e3 e4 e5 e6) [.ref g0, .int v, .int i] (MW g0 g1 g2 g3 g4 g5 g6 e1 e2 e3 e4 e5 e6 N sz ba tx L co ow dr fr lt z dl) (fun r (_ : Unit) => matP N Z tx v i r (-1) (fun n => n)) (fun _ : Unit => MW g0 g1 g2 g3 g4 g5 g6 e1 e2 e3 e4 e5 e6 N sz ba tx L co ow dr fr lt z dl) := by
  intro sz
  refine Met.ofW (cc := cX1_at) (maxL := 3) (ret := some .int) (by decide) rfl ?_
  intro p e s m args below meth c s₁ B hml hv
  obtain ⟨rfl, hsz, hP, hK, hD0⟩ := hv
  have hx := B.exec
  have hb := B.bytes
  have hret := B.returns
  have hts := atoms_spec (ws := ws_ yX1_at cX1_at 3 (some .int)) B.pre
  have hts : ∀ w ∈ lw_all, w.before _ s = true := fun w h => hts w (List.mem_cons_of_mem _ h)
  have hown : s.vm.findClass RX1 = some m.cls := findClass_of_methodNamed B.named
  have hlocks := B.notSynchronized
  subst hsz
  have hD := hD0.self (sz := s.heap.size)
  generalize hAe : va_A (MW g0 g1 g2 g3 g4 g5 g6 e1 e2 e3 e4 e5 e6 N sz ba tx L co ow dr fr lt z dl) s.heap.size = A at hD ⊢
  have hA : ∀ q : Nat, s.heap.size ≤ q → A q := fun q h => by rw [← hAe]; exact Or.inr h
  have hS : va_S A s.heap s.heap [] := va_S.rf
  have hl := lv_entry ([.ref g0, .int v, .int i]) (n := 3) (Nat.le_of_ble_eq_true rfl)
  rw [lg_entry_eq]
  generalize (lg_sl ([.ref g0, .int v, .int i]) ++ List.replicate (3 - (lg_sl ([.ref g0, .int v, .int i])).length) Slot.unset).toArray = ls at hl ⊢
  have hl : lv_has ls 3 [(0, .ref g0), (1, .int v), (2, .int i)] := hl
  refine lv_aload_n hx hb dX1_at_0 rfl (lv_at hl 0 rfl) ?_
  refine lv_iload_n hx hb dX1_at_1 rfl (lv_at hl 1 rfl) ?_
  refine cz_i (As := [.int v]) (rest := []) ⟨hx, hb, hml, hown, hts⟩ (mM_version l D g0 g1 g2 g3 g4 g5 g6 e1 e2 e3 e4 e5 e6 N sz ba tx L co ow dr fr lt z dl v (by omega)) (cwV 1 hts (lw_V q184 q186 qs7 q12 q187) rfl rfl rfl (by decide +kernel) ⟨Nat.le_of_ble_eq_true rfl, Nat.le_of_ble_eq_true rfl⟩) hP hK hD hS hA (ci := 1) rfl rfl rfl rfl hl.1 rfl (Nat.le_of_ble_eq_true rfl) dX1_at_2 ⟨Nat.zero_le _, Nat.zero_le _⟩ (fun r u H locs hr hP hD hS => ?_)
  have hr : r = bI (vOk N v) := hr
  subst hr
  refine wz_b_eq (tgt := 36) hx hb dX1_at_5 (by decide) (fun c_5 => ?_) (fun c_5 => ?_)
  · refine lv_iconst (v := -1) hx hb dX1_at_36 (by decide +kernel) ?_
    exact W.iret (v := -1) hx hb hret (fun t ht hW => ⟨⟨-1, (), rfl, Or.inl ⟨Or.inl c_5, rfl⟩, ⟨by rw [ht]; exact hP, va_K.moved hW.alike hK, hD⟩⟩, hS.F ht⟩) hS.2.2 dX1_at_37
  · obtain ⟨j, hj, rfl⟩ := vOk_of (by omega) c_5
    have hz_j := (hz j hj).2
    refine lv_iload_n hx hb dX1_at_8 rfl (lv_at hl 2 rfl) ?_
    refine lv_if_lt (tgt := 36) hx hb dX1_at_9 (by decide) (fun c_9 => ?_) (fun c_9 => ?_)
    · refine lv_iconst (v := -1) hx hb dX1_at_36 (by decide +kernel) ?_
      exact W.iret (v := -1) hx hb hret (fun t ht hW => ⟨⟨-1, (), rfl, Or.inl ⟨Or.inr (Or.inl c_9), rfl⟩, ⟨by rw [ht]; exact hP, va_K.moved hW.alike hK, hD⟩⟩, hS.F ht⟩) hS.2.2 dX1_at_37
    · obtain ⟨ii, hii, rfl⟩ := nI_of c_9
      refine lv_iload_n hx hb dX1_at_12 rfl (lv_at hl 2 rfl) ?_
      refine lv_aload_n hx hb dX1_at_13 rfl (lv_at hl 0 rfl) ?_
      refine gM_sizes hx hb hts hown hK hP dX1_at_14 ?_
      refine lv_iload_n hx hb dX1_at_17 rfl (lv_at hl 1 rfl) ?_
      refine lM_sizes hx hb hK hP (i := j) (by omega) dX1_at_18 ?_
      refine wz_top (x := sz j) (y := nI (Z j)) ((hz j hj).1) ?_
      refine wz_ge (tgt := 36) hx hb (by omega) (by omega) dX1_at_19 (by decide) (fun c_19 => ?_) (fun c_19 => ?_)
      · refine lv_iconst (v := -1) hx hb dX1_at_36 (by decide +kernel) ?_
        exact W.iret (v := -1) hx hb hret (fun t ht hW => ⟨⟨-1, (), rfl, Or.inl ⟨Or.inr (Or.inr ⟨j, hj, rfl, nI_le c_19 hii⟩), rfl⟩, ⟨by rw [ht]; exact hP, va_K.moved hW.alike hK, hD⟩⟩, hS.F ht⟩) hS.2.2 dX1_at_37
      · refine lv_aload_n hx hb dX1_at_22 rfl (lv_at hl 0 rfl) ?_
        refine gM_texts hx hb hts hown hK hP dX1_at_23 ?_
        refine lv_bipush (v := nI 12) hx hb dX1_at_26 (by decide +kernel) ?_
        refine lv_iload_n hx hb dX1_at_28 rfl (lv_at hl 1 rfl) ?_
        refine wz_imul hx hb dX1_at_29 ?_
        refine lv_iload_n hx hb dX1_at_30 rfl (lv_at hl 2 rfl) ?_
        refine wz_iadd hx hb dX1_at_31 ?_
        refine lM_texts hx hb hK hP (i := (12 * j) + ii) (by omega) dX1_at_32 ?_
        refine lv_goto (tgt := 37) hx hb dX1_at_33 (by decide) ?_
        exact W.iret (v := tx ((12 * j) + ii)) hx hb hret (fun t ht hW => ⟨⟨tx ((12 * j) + ii), (), rfl, Or.inr ⟨j, ii, hj, rfl, c_19, rfl, rfl⟩, ⟨by rw [ht]; exact hP, va_K.moved hW.alike hK, hD⟩⟩, hS.F ht⟩) hS.2.2 dX1_at_37
set_option maxHeartbeats 4000000 in
set_option maxRecDepth 100000 in
theorem mM_line (l : Launch) (D : va_G) (g0 g1 g2 g3 g4 g5 g6 : Nat) (e1 e2 e3 e4 e5 e6 : ClassId) (N : Nat) (sz : Nat → Int32) (ba : Nat → Int32) (tx : Nat → Int32) (L : Nat) (co : Nat → Int32) (ow : Nat → Int32) (dr : Int32) (fr : Int32) (lt : Nat) (z : Nat) (dl : Nat → Int32)  (Z : Nat → Nat) (hN : N ≤ 12) (hz : ∀ j, j < N → sz j = nI (Z j) ∧ Z j ≤ 12) (htx : ∀ j, j < N → ∀ i, i < Z j → ∃ n, n < 30 ∧ tx (12 * j + i) = nI n) (v i : Int32) : MetI l yX1_line (ws_ yX1_line cX1_line 4 (some .int)) zr2 D (TYM e1 e2 e3 e4 e5 e6) [.ref g0, .int v, .int i] (MW g0 g1 g2 g3 g4 g5 g6 e1 e2 e3 e4 e5 e6 N sz ba tx L co ow dr fr lt z dl) (fun r (_ : Unit) => matP N Z tx v i r (-1) (fun n => co n.toNatClampNeg)) (fun _ : Unit => MW g0 g1 g2 g3 g4 g5 g6 e1 e2 e3 e4 e5 e6 N sz ba tx L co ow dr fr lt z dl) := by
  intro sz
  refine Met.ofW (cc := cX1_line) (maxL := 4) (ret := some .int) (by decide) rfl ?_
  intro p e s m args below meth c s₁ B hml hv
  obtain ⟨rfl, hsz, hP, hK, hD0⟩ := hv
  have hx := B.exec
  have hb := B.bytes
  have hret := B.returns
  have hts := atoms_spec (ws := ws_ yX1_line cX1_line 4 (some .int)) B.pre
  have hts : ∀ w ∈ lw_all, w.before _ s = true := fun w h => hts w (List.mem_cons_of_mem _ h)
  have hown : s.vm.findClass RX1 = some m.cls := findClass_of_methodNamed B.named
  have hlocks := B.notSynchronized
  subst hsz
  have hD := hD0.self (sz := s.heap.size)
  generalize hAe : va_A (MW g0 g1 g2 g3 g4 g5 g6 e1 e2 e3 e4 e5 e6 N sz ba tx L co ow dr fr lt z dl) s.heap.size = A at hD ⊢
  have hA : ∀ q : Nat, s.heap.size ≤ q → A q := fun q h => by rw [← hAe]; exact Or.inr h
  have hS : va_S A s.heap s.heap [] := va_S.rf
  have hl := lv_entry ([.ref g0, .int v, .int i]) (n := 4) (Nat.le_of_ble_eq_true rfl)
  rw [lg_entry_eq]
  generalize (lg_sl ([.ref g0, .int v, .int i]) ++ List.replicate (4 - (lg_sl ([.ref g0, .int v, .int i])).length) Slot.unset).toArray = ls at hl ⊢
  have hl : lv_has ls 4 [(0, .ref g0), (1, .int v), (2, .int i)] := hl
  refine lv_aload_n hx hb dX1_line_0 rfl (lv_at hl 0 rfl) ?_
  refine lv_iload_n hx hb dX1_line_1 rfl (lv_at hl 1 rfl) ?_
  refine lv_iload_n hx hb dX1_line_2 rfl (lv_at hl 2 rfl) ?_
  refine cz_i (As := [.int v, .int i]) (rest := []) ⟨hx, hb, hml, hown, hts⟩ (mM_at l D g0 g1 g2 g3 g4 g5 g6 e1 e2 e3 e4 e5 e6 N sz ba tx L co ow dr fr lt z dl Z hN hz v i) (cwV 2 hts (lw_V q217 q219 qs8 q12 q220) rfl rfl rfl (by decide +kernel) ⟨Nat.le_of_ble_eq_true rfl, Nat.le_of_ble_eq_true rfl⟩) hP hK hD hS hA (ci := 1) rfl rfl rfl rfl hl.1 rfl (Nat.le_of_ble_eq_true rfl) dX1_line_3 ⟨Nat.zero_le _, Nat.zero_le _⟩ (fun r u H locs hr hP hD hS => ?_)
  have hr : matP N Z tx v i r (-1) (fun n => n) := hr
  rcases hr with ⟨hno, hr⟩ | ⟨j, ii, hj, hv, hii, hi, hr⟩
  · subst hr
    refine lv_istore_n (lv' := [(3, .int (-1)), (0, .ref g0), (1, .int v), (2, .int i)]) hx hb dX1_line_6 rfl hl (by decide) rfl (fun ls hl => ?_)
    refine lv_iload_n hx hb dX1_line_7 rfl (lv_at hl 0 rfl) ?_
    refine wz_m_ge (tgt := 15) hx hb dX1_line_8 (by decide) ?_
    refine lv_iconst (v := -1) hx hb dX1_line_11 (by decide +kernel) ?_
    refine lv_goto (tgt := 21) hx hb dX1_line_12 (by decide) ?_
    exact W.iret (v := -1) hx hb hret (fun t ht hW => ⟨⟨-1, (), rfl, Or.inl ⟨hno, rfl⟩, ⟨by rw [ht]; exact hP, va_K.moved hW.alike hK, hD⟩⟩, hS.F ht⟩) hS.2.2 dX1_line_21
  · obtain ⟨n, hn, he⟩ := htx j hj ii hii
    have hr : r = nI n := hr.trans he
    subst hr
    refine lv_istore_n (lv' := [(3, .int (nI n)), (0, .ref g0), (1, .int v), (2, .int i)]) hx hb dX1_line_6 rfl hl (by decide) rfl (fun ls hl => ?_)
    refine lv_iload_n hx hb dX1_line_7 rfl (lv_at hl 0 rfl) ?_
    refine wz_n_ge (tgt := 15) hx hb (by omega) dX1_line_8 (by decide) ?_
    refine lv_aload_n hx hb dX1_line_15 rfl (lv_at hl 1 rfl) ?_
    refine gM_contents hx hb hts hown hK hP dX1_line_16 ?_
    refine lv_iload_n hx hb dX1_line_19 rfl (lv_at hl 0 rfl) ?_
    refine lM_contents hx hb hK hP (i := n) (by omega) dX1_line_20 ?_
    exact W.iret (v := co n) hx hb hret (fun t ht hW => ⟨⟨co n, (), rfl, Or.inr ⟨j, ii, hj, hv, hii, hi, by show co n = co (tx (12 * j + ii)).toNatClampNeg; rw [he, nI_clamp (by omega)]⟩, ⟨by rw [ht]; exact hP, va_K.moved hW.alike hK, hD⟩⟩, hS.F ht⟩) hS.2.2 dX1_line_21
set_option maxHeartbeats 4000000 in
set_option maxRecDepth 100000 in
theorem mM_origin (l : Launch) (D : va_G) (g0 g1 g2 g3 g4 g5 g6 : Nat) (e1 e2 e3 e4 e5 e6 : ClassId) (N : Nat) (sz : Nat → Int32) (ba : Nat → Int32) (tx : Nat → Int32) (L : Nat) (co : Nat → Int32) (ow : Nat → Int32) (dr : Int32) (fr : Int32) (lt : Nat) (z : Nat) (dl : Nat → Int32)  (Z : Nat → Nat) (hN : N ≤ 12) (hz : ∀ j, j < N → sz j = nI (Z j) ∧ Z j ≤ 12) (htx : ∀ j, j < N → ∀ i, i < Z j → ∃ n, n < 30 ∧ tx (12 * j + i) = nI n) (v i : Int32) : MetI l yX1_origin (ws_ yX1_origin cX1_origin 4 (some .int)) zr2 D (TYM e1 e2 e3 e4 e5 e6) [.ref g0, .int v, .int i] (MW g0 g1 g2 g3 g4 g5 g6 e1 e2 e3 e4 e5 e6 N sz ba tx L co ow dr fr lt z dl) (fun r (_ : Unit) => matP N Z tx v i r (-1) (fun n => ow n.toNatClampNeg)) (fun _ : Unit => MW g0 g1 g2 g3 g4 g5 g6 e1 e2 e3 e4 e5 e6 N sz ba tx L co ow dr fr lt z dl) := by
  intro sz
  refine Met.ofW (cc := cX1_origin) (maxL := 4) (ret := some .int) (by decide) rfl ?_
  intro p e s m args below meth c s₁ B hml hv
  obtain ⟨rfl, hsz, hP, hK, hD0⟩ := hv
  have hx := B.exec
  have hb := B.bytes
  have hret := B.returns
  have hts := atoms_spec (ws := ws_ yX1_origin cX1_origin 4 (some .int)) B.pre
  have hts : ∀ w ∈ lw_all, w.before _ s = true := fun w h => hts w (List.mem_cons_of_mem _ h)
  have hown : s.vm.findClass RX1 = some m.cls := findClass_of_methodNamed B.named
  have hlocks := B.notSynchronized
  subst hsz
  have hD := hD0.self (sz := s.heap.size)
  generalize hAe : va_A (MW g0 g1 g2 g3 g4 g5 g6 e1 e2 e3 e4 e5 e6 N sz ba tx L co ow dr fr lt z dl) s.heap.size = A at hD ⊢
  have hA : ∀ q : Nat, s.heap.size ≤ q → A q := fun q h => by rw [← hAe]; exact Or.inr h
  have hS : va_S A s.heap s.heap [] := va_S.rf
  have hl := lv_entry ([.ref g0, .int v, .int i]) (n := 4) (Nat.le_of_ble_eq_true rfl)
  rw [lg_entry_eq]
  generalize (lg_sl ([.ref g0, .int v, .int i]) ++ List.replicate (4 - (lg_sl ([.ref g0, .int v, .int i])).length) Slot.unset).toArray = ls at hl ⊢
  have hl : lv_has ls 4 [(0, .ref g0), (1, .int v), (2, .int i)] := hl
  refine lv_aload_n hx hb dX1_origin_0 rfl (lv_at hl 0 rfl) ?_
  refine lv_iload_n hx hb dX1_origin_1 rfl (lv_at hl 1 rfl) ?_
  refine lv_iload_n hx hb dX1_origin_2 rfl (lv_at hl 2 rfl) ?_
  refine cz_i (As := [.int v, .int i]) (rest := []) ⟨hx, hb, hml, hown, hts⟩ (mM_at l D g0 g1 g2 g3 g4 g5 g6 e1 e2 e3 e4 e5 e6 N sz ba tx L co ow dr fr lt z dl Z hN hz v i) (cwV 2 hts (lw_V q217 q219 qs8 q12 q220) rfl rfl rfl (by decide +kernel) ⟨Nat.le_of_ble_eq_true rfl, Nat.le_of_ble_eq_true rfl⟩) hP hK hD hS hA (ci := 1) rfl rfl rfl rfl hl.1 rfl (Nat.le_of_ble_eq_true rfl) dX1_origin_3 ⟨Nat.zero_le _, Nat.zero_le _⟩ (fun r u H locs hr hP hD hS => ?_)
  have hr : matP N Z tx v i r (-1) (fun n => n) := hr
  rcases hr with ⟨hno, hr⟩ | ⟨j, ii, hj, hv, hii, hi, hr⟩
  · subst hr
    refine lv_istore_n (lv' := [(3, .int (-1)), (0, .ref g0), (1, .int v), (2, .int i)]) hx hb dX1_origin_6 rfl hl (by decide) rfl (fun ls hl => ?_)
    refine lv_iload_n hx hb dX1_origin_7 rfl (lv_at hl 0 rfl) ?_
    refine wz_m_ge (tgt := 15) hx hb dX1_origin_8 (by decide) ?_
    refine lv_iconst (v := -1) hx hb dX1_origin_11 (by decide +kernel) ?_
    refine lv_goto (tgt := 21) hx hb dX1_origin_12 (by decide) ?_
    exact W.iret (v := -1) hx hb hret (fun t ht hW => ⟨⟨-1, (), rfl, Or.inl ⟨hno, rfl⟩, ⟨by rw [ht]; exact hP, va_K.moved hW.alike hK, hD⟩⟩, hS.F ht⟩) hS.2.2 dX1_origin_21
  · obtain ⟨n, hn, he⟩ := htx j hj ii hii
    have hr : r = nI n := hr.trans he
    subst hr
    refine lv_istore_n (lv' := [(3, .int (nI n)), (0, .ref g0), (1, .int v), (2, .int i)]) hx hb dX1_origin_6 rfl hl (by decide) rfl (fun ls hl => ?_)
    refine lv_iload_n hx hb dX1_origin_7 rfl (lv_at hl 0 rfl) ?_
    refine wz_n_ge (tgt := 15) hx hb (by omega) dX1_origin_8 (by decide) ?_
    refine lv_aload_n hx hb dX1_origin_15 rfl (lv_at hl 1 rfl) ?_
    refine gM_owners hx hb hts hown hK hP dX1_origin_16 ?_
    refine lv_iload_n hx hb dX1_origin_19 rfl (lv_at hl 0 rfl) ?_
    refine lM_owners hx hb hK hP (i := n) (by omega) dX1_origin_20 ?_
    exact W.iret (v := ow n) hx hb hret (fun t ht hW => ⟨⟨ow n, (), rfl, Or.inr ⟨j, ii, hj, hv, hii, hi, by show ow n = ow (tx (12 * j + ii)).toNatClampNeg; rw [he, nI_clamp (by omega)]⟩, ⟨by rw [ht]; exact hP, va_K.moved hW.alike hK, hD⟩⟩, hS.F ht⟩) hS.2.2 dX1_origin_21
set_option maxHeartbeats 4000000 in
set_option maxRecDepth 100000 in
theorem lpM_ancestors {p : Program} {l : Launch} {e : Env} {R : Room} {s : State} {m : MethodId} {args : Array Value} {below : List Frame} {meth : Method} {c : Code} {Q : State → Prop} {D : va_G} {A : Nat → Prop} {g0 g1 g2 g3 g4 g5 g6 : Nat} {e1 e2 e3 e4 e5 e6 : ClassId} {N : Nat} {sz : Nat → Int32} {ba : Nat → Int32} {tx : Nat → Int32} {L : Nat} {co : Nat → Int32} {ow : Nat → Int32} {dr : Int32} {fr : Int32} {lt : Nat} {z : Nat} {dl : Nat → Int32} (hx : p.tables.exec = Jvm.exec) (hb : c.code = cX1_ancestors) (hml : c.maxLocals = 4) (hown : s.vm.findClass RX1 = some m.cls) (hts : ∀ w ∈ lw_all, w.before args s = true) (hA : ∀ q : Nat, s.heap.size ≤ q → A q) (hK : va_K D vwCl (TYM e1 e2 e3 e4 e5 e6) s) (hR : 1 ≤ R.frames ∧ 30 ≤ R.locals) (li : Nat → Int32) (j : Nat) (hN : N ≤ 12) (hb0 : ba 0 = -1) (hl0 : li 0 = nI 1) (hst : ∀ w, w < N → w ≠ 0 → ∃ b, b < w ∧ ba w = nI b ∧ li w = li b ||| cbit w) (hk : ∀ (H : Heap) (locs : List Loc), va_P D vwCl (MW g0 g1 g2 g3 g4 g5 g6 e1 e2 e3 e4 e5 e6 N sz ba tx L co ow dr fr lt z dl) H → va_D A (MW g0 g1 g2 g3 g4 g5 g6 e1 e2 e3 e4 e5 e6 N sz ba tx L co ow dr fr lt z dl) → va_S A s.heap H locs → ∀ ls : Array Slot, lv_has ls 4 [(2, .int (li j))] → W p l e R s m args below meth c H locs 0 0 Q (F0 m 36 ls [])) : ∀ (n w : Nat) (t : Int32), w < N → w + 1 ≤ n → t ||| li w = li j → ∀ (H : Heap) (locs : List Loc), va_P D vwCl (MW g0 g1 g2 g3 g4 g5 g6 e1 e2 e3 e4 e5 e6 N sz ba tx L co ow dr fr lt z dl) H → va_D A (MW g0 g1 g2 g3 g4 g5 g6 e1 e2 e3 e4 e5 e6 N sz ba tx L co ow dr fr lt z dl) → va_S A s.heap H locs → ∀ ls : Array Slot, lv_has ls 4 [(0, .ref g0), (2, .int t), (3, .int (nI w))] → W p l e R s m args below meth c H locs 0 0 Q (F0 m 16 ls []) := by
  intro n
  induction n with
  | zero =>
    intro w t h1 h2
    exact absurd h2 (by omega)
  | succ n ih =>
    intro w t hw hn ht H locs hP hD hS ls hl
    refine lv_iload_n hx hb dX1_ancestors_16 rfl (lv_at hl 2 rfl) ?_
    refine wz_n_lt (tgt := 36) hx hb (by omega) dX1_ancestors_17 (by decide) ?_
    refine lv_iload_n hx hb dX1_ancestors_20 rfl (lv_at hl 1 rfl) ?_
    refine lv_iconst (v := nI 1) hx hb dX1_ancestors_21 (by decide +kernel) ?_
    refine lv_iload_n hx hb dX1_ancestors_22 rfl (lv_at hl 2 rfl) ?_
    refine lv_ishl hx hb dX1_ancestors_23 ?_
    refine lv_ior hx hb dX1_ancestors_24 ?_
    refine lv_istore_n (lv' := [(2, .int ((t) ||| ((nI 1) <<< ((nI w) &&& 31)))), (0, .ref g0), (3, .int (nI w))]) hx hb dX1_ancestors_25 rfl hl (by decide) rfl (fun ls hl => ?_)
    refine lv_aload_n hx hb dX1_ancestors_26 rfl (lv_at hl 1 rfl) ?_
    refine gM_bases hx hb hts hown hK hP dX1_ancestors_27 ?_
    refine lv_iload_n hx hb dX1_ancestors_30 rfl (lv_at hl 2 rfl) ?_
    refine lM_bases hx hb hK hP (i := w) (by omega) dX1_ancestors_31 ?_
    rcases Nat.eq_zero_or_pos w with hw0 | hw0
    · have ht2 : t ||| (nI 1 <<< (nI w &&& 31)) = li j := by rw [hw0] at ht ⊢; rw [show nI 1 <<< (nI 0 &&& 31) = nI 1 from cbit_0, ← hl0]; exact ht
      refine wz_top (x := ba w) (y := -1) (by rw [hw0]; exact hb0) ?_
      refine lv_istore_n (lv' := [(3, .int (-1)), (2, .int ((t) ||| ((nI 1) <<< ((nI w) &&& 31)))), (0, .ref g0)]) hx hb dX1_ancestors_32 rfl hl (by decide) rfl (fun ls hl => ?_)
      refine lv_goto (tgt := 16) hx hb dX1_ancestors_33 (by decide) ?_
      refine lv_iload_n hx hb dX1_ancestors_16 rfl (lv_at hl 0 rfl) ?_
      refine wz_m_lt (tgt := 36) hx hb dX1_ancestors_17 (by decide) ?_
      rw [ht2] at hl
      exact hk _ _ hP hD hS ls (lv_sub hl [1] rfl)
    · obtain ⟨b, hbw, e1, e2⟩ := hst w hw (by omega)
      refine wz_top (x := ba w) (y := nI b) (e1) ?_
      refine lv_istore_n (lv' := [(3, .int (nI b)), (2, .int ((t) ||| ((nI 1) <<< ((nI w) &&& 31)))), (0, .ref g0)]) hx hb dX1_ancestors_32 rfl hl (by decide) rfl (fun ls hl => ?_)
      refine lv_goto (tgt := 16) hx hb dX1_ancestors_33 (by decide) ?_
      exact ih b (t ||| cbit w) (by omega) (by omega) (by rw [or_l, ← e2]; exact ht) _ _ hP hD hS ls (lv_sub hl [2, 1, 0] rfl)
set_option maxHeartbeats 4000000 in
set_option maxRecDepth 100000 in
theorem mM_ancestors (l : Launch) (D : va_G) (g0 g1 g2 g3 g4 g5 g6 : Nat) (e1 e2 e3 e4 e5 e6 : ClassId) (N : Nat) (sz : Nat → Int32) (ba : Nat → Int32) (tx : Nat → Int32) (L : Nat) (co : Nat → Int32) (ow : Nat → Int32) (dr : Int32) (fr : Int32) (lt : Nat) (z : Nat) (dl : Nat → Int32)  (li : Nat → Int32) (hN : N ≤ 12) (hb0 : ba 0 = -1) (hl0 : li 0 = nI 1) (hst : ∀ w, w < N → w ≠ 0 → ∃ b, b < w ∧ ba w = nI b ∧ li w = li b ||| cbit w) (v : Int32) : MetI l yX1_ancestors (ws_ yX1_ancestors cX1_ancestors 4 (some .int)) zr1 D (TYM e1 e2 e3 e4 e5 e6) [.ref g0, .int v] (MW g0 g1 g2 g3 g4 g5 g6 e1 e2 e3 e4 e5 e6 N sz ba tx L co ow dr fr lt z dl) (fun r (_ : Unit) => verP N v r (nI 0) li) (fun _ : Unit => MW g0 g1 g2 g3 g4 g5 g6 e1 e2 e3 e4 e5 e6 N sz ba tx L co ow dr fr lt z dl) := by
  intro sz
  refine Met.ofW (cc := cX1_ancestors) (maxL := 4) (ret := some .int) (by decide) rfl ?_
  intro p e s m args below meth c s₁ B hml hv
  obtain ⟨rfl, hsz, hP, hK, hD0⟩ := hv
  have hx := B.exec
  have hb := B.bytes
  have hret := B.returns
  have hts := atoms_spec (ws := ws_ yX1_ancestors cX1_ancestors 4 (some .int)) B.pre
  have hts : ∀ w ∈ lw_all, w.before _ s = true := fun w h => hts w (List.mem_cons_of_mem _ h)
  have hown : s.vm.findClass RX1 = some m.cls := findClass_of_methodNamed B.named
  have hlocks := B.notSynchronized
  subst hsz
  have hD := hD0.self (sz := s.heap.size)
  generalize hAe : va_A (MW g0 g1 g2 g3 g4 g5 g6 e1 e2 e3 e4 e5 e6 N sz ba tx L co ow dr fr lt z dl) s.heap.size = A at hD ⊢
  have hA : ∀ q : Nat, s.heap.size ≤ q → A q := fun q h => by rw [← hAe]; exact Or.inr h
  have hS : va_S A s.heap s.heap [] := va_S.rf
  have hl := lv_entry ([.ref g0, .int v]) (n := 4) (Nat.le_of_ble_eq_true rfl)
  rw [lg_entry_eq]
  generalize (lg_sl ([.ref g0, .int v]) ++ List.replicate (4 - (lg_sl ([.ref g0, .int v])).length) Slot.unset).toArray = ls at hl ⊢
  have hl : lv_has ls 4 [(0, .ref g0), (1, .int v)] := hl
  refine lv_iconst (v := nI 0) hx hb dX1_ancestors_0 (by decide +kernel) ?_
  refine lv_istore_n (lv' := [(2, .int (nI 0)), (0, .ref g0), (1, .int v)]) hx hb dX1_ancestors_1 rfl hl (by decide) rfl (fun ls hl => ?_)
  refine lv_aload_n hx hb dX1_ancestors_2 rfl (lv_at hl 1 rfl) ?_
  refine lv_iload_n hx hb dX1_ancestors_3 rfl (lv_at hl 2 rfl) ?_
  refine cz_i (As := [.int v]) (rest := []) ⟨hx, hb, hml, hown, hts⟩ (mM_version l D g0 g1 g2 g3 g4 g5 g6 e1 e2 e3 e4 e5 e6 N sz ba tx L co ow dr fr lt z dl v (by omega)) (cwV 1 hts (lw_V q184 q186 qs7 q12 q187) rfl rfl rfl (by decide +kernel) ⟨Nat.le_of_ble_eq_true rfl, Nat.le_of_ble_eq_true rfl⟩) hP hK hD hS hA (ci := 1) rfl rfl rfl rfl hl.1 rfl (Nat.le_of_ble_eq_true rfl) dX1_ancestors_4 ⟨Nat.zero_le _, Nat.zero_le _⟩ (fun r u H locs hr hP hD hS => ?_)
  have hr : r = bI (vOk N v) := hr
  subst hr
  refine wz_b_eq (tgt := 14) hx hb dX1_ancestors_7 (by decide) (fun c_7 => ?_) (fun c_7 => ?_)
  · refine lv_iconst (v := -1) hx hb dX1_ancestors_14 (by decide +kernel) ?_
    refine lv_istore_n (lv' := [(3, .int (-1)), (2, .int (nI 0)), (0, .ref g0), (1, .int v)]) hx hb dX1_ancestors_15 rfl hl (by decide) rfl (fun ls hl => ?_)
    refine lv_iload_n hx hb dX1_ancestors_16 rfl (lv_at hl 0 rfl) ?_
    refine wz_m_lt (tgt := 36) hx hb dX1_ancestors_17 (by decide) ?_
    refine lv_iload_n hx hb dX1_ancestors_36 rfl (lv_at hl 1 rfl) ?_
    exact W.iret (v := nI 0) hx hb hret (fun t ht hW => ⟨⟨nI 0, (), rfl, Or.inl ⟨c_7, rfl⟩, ⟨by rw [ht]; exact hP, va_K.moved hW.alike hK, hD⟩⟩, hS.F ht⟩) hS.2.2 dX1_ancestors_37
  · obtain ⟨j, hj, rfl⟩ := vOk_of (by omega) c_7
    refine lv_iload_n hx hb dX1_ancestors_10 rfl (lv_at hl 2 rfl) ?_
    refine lv_goto (tgt := 15) hx hb dX1_ancestors_11 (by decide) ?_
    refine lv_istore_n (lv' := [(3, .int (nI j)), (2, .int (nI 0)), (0, .ref g0), (1, .int (nI j))]) hx hb dX1_ancestors_15 rfl hl (by decide) rfl (fun ls hl => ?_)
    refine lpM_ancestors hx hb hml hown hts hA hK ⟨Nat.le_of_ble_eq_true rfl, Nat.le_of_ble_eq_true rfl⟩ li j hN hb0 hl0 hst (fun H locs hP hD hS ls hl => ?_) (j + 1) j (nI 0) hj (Nat.le_refl _) (nI0_or _) _ _ hP hD hS ls (lv_sub hl [2, 1, 0] rfl)
    refine lv_iload_n hx hb dX1_ancestors_36 rfl (lv_at hl 0 rfl) ?_
    exact W.iret (v := li j) hx hb hret (fun t ht hW => ⟨⟨li j, (), rfl, Or.inr ⟨j, hj, rfl, rfl⟩, ⟨by rw [ht]; exact hP, va_K.moved hW.alike hK, hD⟩⟩, hS.F ht⟩) hS.2.2 dX1_ancestors_37
set_option maxHeartbeats 4000000 in
set_option maxRecDepth 100000 in
theorem lpM_find {p : Program} {l : Launch} {e : Env} {R : Room} {s : State} {m : MethodId} {args : Array Value} {below : List Frame} {meth : Method} {c : Code} {Q : State → Prop} {D : va_G} {A : Nat → Prop} {g0 g1 g2 g3 g4 g5 g6 : Nat} {e1 e2 e3 e4 e5 e6 : ClassId} {N : Nat} {sz : Nat → Int32} {ba : Nat → Int32} {tx : Nat → Int32} {L : Nat} {co : Nat → Int32} {ow : Nat → Int32} {dr : Int32} {fr : Int32} {lt : Nat} {z : Nat} {dl : Nat → Int32} (hx : p.tables.exec = Jvm.exec) (hb : c.code = cX1_find) (hml : c.maxLocals = 4) (hown : s.vm.findClass RX1 = some m.cls) (hts : ∀ w ∈ lw_all, w.before args s = true) (hA : ∀ q : Nat, s.heap.size ≤ q → A q) (hK : va_K D vwCl (TYM e1 e2 e3 e4 e5 e6) s) (hR : 0 ≤ R.frames ∧ 0 ≤ R.locals) (Z : Nat → Nat) (hN : N ≤ 12) (hz : ∀ j, j < N → sz j = nI (Z j) ∧ Z j ≤ 12) (q : Int32) (w : Nat) (hw : w < N) (hk1 : ∀ i, i < Z w → has (tv tx w) q i = false → tv tx w i = q → ∀ (H : Heap) (locs : List Loc), va_P D vwCl (MW g0 g1 g2 g3 g4 g5 g6 e1 e2 e3 e4 e5 e6 N sz ba tx L co ow dr fr lt z dl) H → va_D A (MW g0 g1 g2 g3 g4 g5 g6 e1 e2 e3 e4 e5 e6 N sz ba tx L co ow dr fr lt z dl) → va_S A s.heap H locs → ∀ ls : Array Slot, lv_has ls 4 [(3, .int (nI i))] → W p l e R s m args below meth c H locs 0 0 Q (F0 m 27 ls [])) (hk2 : has (tv tx w) q (Z w) = false → ∀ (H : Heap) (locs : List Loc), va_P D vwCl (MW g0 g1 g2 g3 g4 g5 g6 e1 e2 e3 e4 e5 e6 N sz ba tx L co ow dr fr lt z dl) H → va_D A (MW g0 g1 g2 g3 g4 g5 g6 e1 e2 e3 e4 e5 e6 N sz ba tx L co ow dr fr lt z dl) → va_S A s.heap H locs → ∀ ls : Array Slot, lv_has ls 4 [] → W p l e R s m args below meth c H locs 0 0 Q (F0 m 35 ls [])) : ∀ (n i : Nat), i ≤ Z w → Z w + 1 ≤ i + n → has (tv tx w) q i = false → ∀ (H : Heap) (locs : List Loc), va_P D vwCl (MW g0 g1 g2 g3 g4 g5 g6 e1 e2 e3 e4 e5 e6 N sz ba tx L co ow dr fr lt z dl) H → va_D A (MW g0 g1 g2 g3 g4 g5 g6 e1 e2 e3 e4 e5 e6 N sz ba tx L co ow dr fr lt z dl) → va_S A s.heap H locs → ∀ ls : Array Slot, lv_has ls 4 [(0, .ref g0), (1, .int q), (2, .int (nI w)), (3, .int (nI i))] → W p l e R s m args below meth c H locs 0 0 Q (F0 m 2 ls []) := by
  intro n
  induction n with
  | zero =>
    intro i h1 h2
    exact absurd h2 (by omega)
  | succ n ih =>
    intro i hi hn hh H locs hP hD hS ls hl
    have hzw := (hz w hw).2
    refine lv_iload_n hx hb dX1_find_2 rfl (lv_at hl 3 rfl) ?_
    refine lv_aload_n hx hb dX1_find_3 rfl (lv_at hl 0 rfl) ?_
    refine gM_sizes hx hb hts hown hK hP dX1_find_4 ?_
    refine lv_iload_n hx hb dX1_find_7 rfl (lv_at hl 2 rfl) ?_
    refine lM_sizes hx hb hK hP (i := w) (by omega) dX1_find_8 ?_
    refine wz_top (x := sz w) (y := nI (Z w)) ((hz w hw).1) ?_
    refine wz_ge (tgt := 35) hx hb (by omega) (by omega) dX1_find_9 (by decide) (fun c_9 => ?_) (fun c_9 => ?_)
    · exact hk2 (by rw [show i = Z w from by omega] at hh; exact hh) _ _ hP hD hS ls (lv_sub hl [] rfl)
    · refine lv_aload_n hx hb dX1_find_12 rfl (lv_at hl 0 rfl) ?_
      refine gM_texts hx hb hts hown hK hP dX1_find_13 ?_
      refine lv_bipush (v := nI 12) hx hb dX1_find_16 (by decide +kernel) ?_
      refine lv_iload_n hx hb dX1_find_18 rfl (lv_at hl 2 rfl) ?_
      refine wz_imul hx hb dX1_find_19 ?_
      refine lv_iload_n hx hb dX1_find_20 rfl (lv_at hl 3 rfl) ?_
      refine wz_iadd hx hb dX1_find_21 ?_
      refine lM_texts hx hb hK hP (i := (12 * w) + i) (by omega) dX1_find_22 ?_
      refine lv_iload_n hx hb dX1_find_23 rfl (lv_at hl 1 rfl) ?_
      refine lv_icmp_ne (tgt := 29) hx hb dX1_find_24 (by decide) (fun c_24 => ?_) (fun c_24 => ?_)
      · refine lv_iinc (v := nI (i + 1)) (lv' := [(3, .int (nI (i + 1))), (0, .ref g0), (1, .int q), (2, .int (nI w))]) hx hb dX1_find_29 hl (k := 3) rfl (wz_inc1 i) (by decide) rfl (fun ls hl => ?_)
        refine lv_goto (tgt := 2) hx hb dX1_find_32 (by decide) ?_
        exact ih (i + 1) (by omega) (by omega) (has_s hh c_24) _ _ hP hD hS ls (lv_sub hl [1, 2, 3, 0] rfl)
      · exact hk1 i c_9 hh c_24 _ _ hP hD hS ls (lv_sub hl [3] rfl)
set_option maxHeartbeats 4000000 in
set_option maxRecDepth 100000 in
theorem mM_find (l : Launch) (D : va_G) (g0 g1 g2 g3 g4 g5 g6 : Nat) (e1 e2 e3 e4 e5 e6 : ClassId) (N : Nat) (sz : Nat → Int32) (ba : Nat → Int32) (tx : Nat → Int32) (L : Nat) (co : Nat → Int32) (ow : Nat → Int32) (dr : Int32) (fr : Int32) (lt : Nat) (z : Nat) (dl : Nat → Int32)  (Z : Nat → Nat) (hN : N ≤ 12) (hz : ∀ j, j < N → sz j = nI (Z j) ∧ Z j ≤ 12) (q : Int32) (w : Nat) (hw : w < N) : MetI l yX1_find (ws_ yX1_find cX1_find 4 (some .int)) zr0 D (TYM e1 e2 e3 e4 e5 e6) [.ref g0, .int q, .int (nI w)] (MW g0 g1 g2 g3 g4 g5 g6 e1 e2 e3 e4 e5 e6 N sz ba tx L co ow dr fr lt z dl) (fun r (_ : Unit) => r = ffi (tv tx w) q (Z w)) (fun _ : Unit => MW g0 g1 g2 g3 g4 g5 g6 e1 e2 e3 e4 e5 e6 N sz ba tx L co ow dr fr lt z dl) := by
  intro sz
  refine Met.ofW (cc := cX1_find) (maxL := 4) (ret := some .int) (by decide) rfl ?_
  intro p e s m args below meth c s₁ B hml hv
  obtain ⟨rfl, hsz, hP, hK, hD0⟩ := hv
  have hx := B.exec
  have hb := B.bytes
  have hret := B.returns
  have hts := atoms_spec (ws := ws_ yX1_find cX1_find 4 (some .int)) B.pre
  have hts : ∀ w ∈ lw_all, w.before _ s = true := fun w h => hts w (List.mem_cons_of_mem _ h)
  have hown : s.vm.findClass RX1 = some m.cls := findClass_of_methodNamed B.named
  have hlocks := B.notSynchronized
  subst hsz
  have hD := hD0.self (sz := s.heap.size)
  generalize hAe : va_A (MW g0 g1 g2 g3 g4 g5 g6 e1 e2 e3 e4 e5 e6 N sz ba tx L co ow dr fr lt z dl) s.heap.size = A at hD ⊢
  have hA : ∀ q : Nat, s.heap.size ≤ q → A q := fun q h => by rw [← hAe]; exact Or.inr h
  have hS : va_S A s.heap s.heap [] := va_S.rf
  have hl := lv_entry ([.ref g0, .int q, .int (nI w)]) (n := 4) (Nat.le_of_ble_eq_true rfl)
  rw [lg_entry_eq]
  generalize (lg_sl ([.ref g0, .int q, .int (nI w)]) ++ List.replicate (4 - (lg_sl ([.ref g0, .int q, .int (nI w)])).length) Slot.unset).toArray = ls at hl ⊢
  have hl : lv_has ls 4 [(0, .ref g0), (1, .int q), (2, .int (nI w))] := hl
  refine lv_iconst (v := nI 0) hx hb dX1_find_0 (by decide +kernel) ?_
  refine lv_istore_n (lv' := [(3, .int (nI 0)), (0, .ref g0), (1, .int q), (2, .int (nI w))]) hx hb dX1_find_1 rfl hl (by decide) rfl (fun ls hl => ?_)
  refine lpM_find hx hb hml hown hts hA hK ⟨Nat.le_of_ble_eq_true rfl, Nat.le_of_ble_eq_true rfl⟩ Z hN hz q w hw (fun i hi hh he H locs hP hD hS ls hl => ?_) (fun hh H locs hP hD hS ls hl => ?_) (Z w + 1) 0 (Nat.zero_le _) (by omega) rfl _ _ hP hD hS ls (lv_sub hl [1, 2, 3, 0] rfl)
  · refine lv_iload_n hx hb dX1_find_27 rfl (lv_at hl 0 rfl) ?_
    exact W.iret (v := nI i) hx hb hret (fun t ht hW => ⟨⟨nI i, (), rfl, (ffi_at hh he hi).symm, ⟨by rw [ht]; exact hP, va_K.moved hW.alike hK, hD⟩⟩, hS.F ht⟩) hS.2.2 dX1_find_28
  · refine lv_iconst (v := -1) hx hb dX1_find_35 (by decide +kernel) ?_
    exact W.iret (v := -1) hx hb hret (fun t ht hW => ⟨⟨-1, (), rfl, (ffi_none hh).symm, ⟨by rw [ht]; exact hP, va_K.moved hW.alike hK, hD⟩⟩, hS.F ht⟩) hS.2.2 dX1_find_36
set_option maxHeartbeats 4000000 in
set_option maxRecDepth 100000 in
theorem lpM_shared {p : Program} {l : Launch} {e : Env} {R : Room} {s : State} {m : MethodId} {args : Array Value} {below : List Frame} {meth : Method} {c : Code} {Q : State → Prop} {D : va_G} {A : Nat → Prop} {g0 g1 g2 g3 g4 g5 g6 : Nat} {e1 e2 e3 e4 e5 e6 : ClassId} {N : Nat} {sz : Nat → Int32} {ba : Nat → Int32} {tx : Nat → Int32} {L : Nat} {co : Nat → Int32} {ow : Nat → Int32} {dr : Int32} {fr : Int32} {lt : Nat} {z : Nat} {dl : Nat → Int32} (hx : p.tables.exec = Jvm.exec) (hb : c.code = cX1_shared) (hml : c.maxLocals = 5) (hown : s.vm.findClass RX1 = some m.cls) (hts : ∀ w ∈ lw_all, w.before args s = true) (hA : ∀ q : Nat, s.heap.size ≤ q → A q) (hK : va_K D vwCl (TYM e1 e2 e3 e4 e5 e6) s) (hR : 1 ≤ R.frames ∧ 30 ≤ R.locals) (Z : Nat → Nat) (hN : N ≤ 12) (hz : ∀ j, j < N → sz j = nI (Z j) ∧ Z j ≤ 12) (j j2 : Nat) (hj : j < N) (hj2 : j2 < N) (hk : ∀ (H : Heap) (locs : List Loc), va_P D vwCl (MW g0 g1 g2 g3 g4 g5 g6 e1 e2 e3 e4 e5 e6 N sz ba tx L co ow dr fr lt z dl) H → va_D A (MW g0 g1 g2 g3 g4 g5 g6 e1 e2 e3 e4 e5 e6 N sz ba tx L co ow dr fr lt z dl) → va_S A s.heap H locs → ∀ ls : Array Slot, lv_has ls 5 [(3, .int (nI (cnt (fun i => has (tv tx j2) (tx (12 * j + i)) (Z j2)) (Z j))))] → W p l e R s m args below meth c H locs 0 0 Q (F0 m 68 ls [])) : ∀ (n i : Nat), i ≤ Z j → Z j + 1 ≤ i + n → ∀ (H : Heap) (locs : List Loc), va_P D vwCl (MW g0 g1 g2 g3 g4 g5 g6 e1 e2 e3 e4 e5 e6 N sz ba tx L co ow dr fr lt z dl) H → va_D A (MW g0 g1 g2 g3 g4 g5 g6 e1 e2 e3 e4 e5 e6 N sz ba tx L co ow dr fr lt z dl) → va_S A s.heap H locs → ∀ ls : Array Slot, lv_has ls 5 [(0, .ref g0), (1, .int (nI j)), (2, .int (nI j2)), (3, .int (nI (cnt (fun i => has (tv tx j2) (tx (12 * j + i)) (Z j2)) i))), (4, .int (nI i))] → W p l e R s m args below meth c H locs 0 0 Q (F0 m 23 ls []) := by
  intro n
  induction n with
  | zero =>
    intro i h1 h2
    exact absurd h2 (by omega)
  | succ n ih =>
    intro i hi hn H locs hP hD hS ls hl
    have hzj := (hz j hj).2
    have hzj2 := (hz j2 hj2).2
    refine lv_iload hx hb dX1_shared_23 (lv_at hl 4 rfl) ?_
    refine lv_aload_n hx hb dX1_shared_25 rfl (lv_at hl 0 rfl) ?_
    refine gM_sizes hx hb hts hown hK hP dX1_shared_26 ?_
    refine lv_iload_n hx hb dX1_shared_29 rfl (lv_at hl 1 rfl) ?_
    refine lM_sizes hx hb hK hP (i := j) (by omega) dX1_shared_30 ?_
    refine wz_top (x := sz j) (y := nI (Z j)) ((hz j hj).1) ?_
    refine wz_ge (tgt := 68) hx hb (by omega) (by omega) dX1_shared_31 (by decide) (fun c_31 => ?_) (fun c_31 => ?_)
    · rw [show i = Z j from by omega] at hl
      exact hk _ _ hP hD hS ls (lv_sub hl [3] rfl)
    · refine lv_aload_n hx hb dX1_shared_34 rfl (lv_at hl 0 rfl) ?_
      refine lv_aload_n hx hb dX1_shared_35 rfl (lv_at hl 0 rfl) ?_
      refine gM_texts hx hb hts hown hK hP dX1_shared_36 ?_
      refine lv_bipush (v := nI 12) hx hb dX1_shared_39 (by decide +kernel) ?_
      refine lv_iload_n hx hb dX1_shared_41 rfl (lv_at hl 1 rfl) ?_
      refine wz_imul hx hb dX1_shared_42 ?_
      refine lv_iload hx hb dX1_shared_43 (lv_at hl 4 rfl) ?_
      refine wz_iadd hx hb dX1_shared_45 ?_
      refine lM_texts hx hb hK hP (i := (12 * j) + i) (by omega) dX1_shared_46 ?_
      refine lv_iload_n hx hb dX1_shared_47 rfl (lv_at hl 2 rfl) ?_
      refine cz_i (As := [.int (tx ((12 * j) + i)), .int (nI j2)]) (rest := []) ⟨hx, hb, hml, hown, hts⟩ (mM_find l D g0 g1 g2 g3 g4 g5 g6 e1 e2 e3 e4 e5 e6 N sz ba tx L co ow dr fr lt z dl Z hN hz (tx (12 * j + i)) j2 hj2) (cwV 2 hts (lw_V q237 q239 qs9 q12 q240) rfl rfl rfl (by decide +kernel) ⟨Nat.le_trans (Nat.le_of_ble_eq_true rfl) hR.1, Nat.le_trans (Nat.le_of_ble_eq_true rfl) hR.2⟩) hP hK hD hS hA (ci := 1) rfl rfl rfl rfl hl.1 rfl (Nat.le_of_ble_eq_true rfl) dX1_shared_48 ⟨Nat.zero_le _, Nat.zero_le _⟩ (fun r u H locs hr hP hD hS => ?_)
      have hr : r = ffi (tv tx j2) (tx (12 * j + i)) (Z j2) := hr
      rcases ffi_cases (tv tx j2) (tx (12 * j + i)) (Z j2) with ⟨q1, q2⟩ | ⟨q1, i2, hi2, he2, hf2⟩
      · have hr : r = -1 := hr.trans q2
        subst hr
        refine wz_m_lt (tgt := 60) hx hb dX1_shared_51 (by decide) ?_
        refine lv_iload_n hx hb dX1_shared_60 rfl (lv_at hl 3 rfl) ?_
        refine lv_istore_n (lv' := [(3, .int (nI (cnt (fun i => has (tv tx j2) (tx (12 * j + i)) (Z j2)) i))), (0, .ref g0), (1, .int (nI j)), (2, .int (nI j2)), (4, .int (nI i))]) hx hb dX1_shared_61 rfl hl (by decide) rfl (fun ls hl => ?_)
        refine lv_iinc (v := nI (i + 1)) (lv' := [(4, .int (nI (i + 1))), (3, .int (nI (cnt (fun i => has (tv tx j2) (tx (12 * j + i)) (Z j2)) i))), (0, .ref g0), (1, .int (nI j)), (2, .int (nI j2))]) hx hb dX1_shared_62 hl (k := 4) rfl (wz_inc1 i) (by decide) rfl (fun ls hl => ?_)
        refine lv_goto (tgt := 23) hx hb dX1_shared_65 (by decide) ?_
        have hcs := cnt_f (p := fun i => has (tv tx j2) (tx (12 * j + i)) (Z j2)) (n := i) q1
        exact ih (i + 1) (by omega) (by omega) _ _ hP hD hS ls (lv_sub hl [2, 3, 4, 1, 0] (by rw [hcs]; rfl))
      · have hr : r = nI i2 := hr.trans hf2
        subst hr
        refine wz_n_lt (tgt := 60) hx hb (by omega) dX1_shared_51 (by decide) ?_
        refine lv_iload_n hx hb dX1_shared_54 rfl (lv_at hl 3 rfl) ?_
        refine lv_iconst (v := nI 1) hx hb dX1_shared_55 (by decide +kernel) ?_
        refine wz_iadd hx hb dX1_shared_56 ?_
        refine lv_goto (tgt := 61) hx hb dX1_shared_57 (by decide) ?_
        refine lv_istore_n (lv' := [(3, .int (nI ((cnt (fun i => has (tv tx j2) (tx (12 * j + i)) (Z j2)) i) + 1))), (0, .ref g0), (1, .int (nI j)), (2, .int (nI j2)), (4, .int (nI i))]) hx hb dX1_shared_61 rfl hl (by decide) rfl (fun ls hl => ?_)
        refine lv_iinc (v := nI (i + 1)) (lv' := [(4, .int (nI (i + 1))), (3, .int (nI ((cnt (fun i => has (tv tx j2) (tx (12 * j + i)) (Z j2)) i) + 1))), (0, .ref g0), (1, .int (nI j)), (2, .int (nI j2))]) hx hb dX1_shared_62 hl (k := 4) rfl (wz_inc1 i) (by decide) rfl (fun ls hl => ?_)
        refine lv_goto (tgt := 23) hx hb dX1_shared_65 (by decide) ?_
        have hcs := cnt_t (p := fun i => has (tv tx j2) (tx (12 * j + i)) (Z j2)) (n := i) q1
        exact ih (i + 1) (by omega) (by omega) _ _ hP hD hS ls (lv_sub hl [2, 3, 4, 1, 0] (by rw [hcs]; rfl))
set_option maxHeartbeats 4000000 in
set_option maxRecDepth 100000 in
theorem mM_shared (l : Launch) (D : va_G) (g0 g1 g2 g3 g4 g5 g6 : Nat) (e1 e2 e3 e4 e5 e6 : ClassId) (N : Nat) (sz : Nat → Int32) (ba : Nat → Int32) (tx : Nat → Int32) (L : Nat) (co : Nat → Int32) (ow : Nat → Int32) (dr : Int32) (fr : Int32) (lt : Nat) (z : Nat) (dl : Nat → Int32)  (Z : Nat → Nat) (hN : N ≤ 12) (hz : ∀ j, j < N → sz j = nI (Z j) ∧ Z j ≤ 12) (v w : Int32) : MetI l yX1_shared (ws_ yX1_shared cX1_shared 5 (some .int)) zr1 D (TYM e1 e2 e3 e4 e5 e6) [.ref g0, .int v, .int w] (MW g0 g1 g2 g3 g4 g5 g6 e1 e2 e3 e4 e5 e6 N sz ba tx L co ow dr fr lt z dl) (fun r (_ : Unit) => ver2P N v w r (fun j j2 => nI (cnt (fun i => has (tv tx j2) (tx (12 * j + i)) (Z j2)) (Z j)))) (fun _ : Unit => MW g0 g1 g2 g3 g4 g5 g6 e1 e2 e3 e4 e5 e6 N sz ba tx L co ow dr fr lt z dl) := by
  intro sz
  refine Met.ofW (cc := cX1_shared) (maxL := 5) (ret := some .int) (by decide) rfl ?_
  intro p e s m args below meth c s₁ B hml hv
  obtain ⟨rfl, hsz, hP, hK, hD0⟩ := hv
  have hx := B.exec
  have hb := B.bytes
  have hret := B.returns
  have hts := atoms_spec (ws := ws_ yX1_shared cX1_shared 5 (some .int)) B.pre
  have hts : ∀ w ∈ lw_all, w.before _ s = true := fun w h => hts w (List.mem_cons_of_mem _ h)
  have hown : s.vm.findClass RX1 = some m.cls := findClass_of_methodNamed B.named
  have hlocks := B.notSynchronized
  subst hsz
  have hD := hD0.self (sz := s.heap.size)
  generalize hAe : va_A (MW g0 g1 g2 g3 g4 g5 g6 e1 e2 e3 e4 e5 e6 N sz ba tx L co ow dr fr lt z dl) s.heap.size = A at hD ⊢
  have hA : ∀ q : Nat, s.heap.size ≤ q → A q := fun q h => by rw [← hAe]; exact Or.inr h
  have hS : va_S A s.heap s.heap [] := va_S.rf
  have hl := lv_entry ([.ref g0, .int v, .int w]) (n := 5) (Nat.le_of_ble_eq_true rfl)
  rw [lg_entry_eq]
  generalize (lg_sl ([.ref g0, .int v, .int w]) ++ List.replicate (5 - (lg_sl ([.ref g0, .int v, .int w])).length) Slot.unset).toArray = ls at hl ⊢
  have hl : lv_has ls 5 [(0, .ref g0), (1, .int v), (2, .int w)] := hl
  refine lv_aload_n hx hb dX1_shared_0 rfl (lv_at hl 0 rfl) ?_
  refine lv_iload_n hx hb dX1_shared_1 rfl (lv_at hl 1 rfl) ?_
  refine cz_i (As := [.int v]) (rest := []) ⟨hx, hb, hml, hown, hts⟩ (mM_version l D g0 g1 g2 g3 g4 g5 g6 e1 e2 e3 e4 e5 e6 N sz ba tx L co ow dr fr lt z dl v (by omega)) (cwV 1 hts (lw_V q184 q186 qs7 q12 q187) rfl rfl rfl (by decide +kernel) ⟨Nat.le_of_ble_eq_true rfl, Nat.le_of_ble_eq_true rfl⟩) hP hK hD hS hA (ci := 1) rfl rfl rfl rfl hl.1 rfl (Nat.le_of_ble_eq_true rfl) dX1_shared_2 ⟨Nat.zero_le _, Nat.zero_le _⟩ (fun r u H locs hr hP hD hS => ?_)
  have hr : r = bI (vOk N v) := hr
  subst hr
  refine wz_b_eq (tgt := 16) hx hb dX1_shared_5 (by decide) (fun c_5 => ?_) (fun c_5 => ?_)
  · refine lv_iconst (v := -1) hx hb dX1_shared_16 (by decide +kernel) ?_
    exact W.iret (v := -1) hx hb hret (fun t ht hW => ⟨⟨-1, (), rfl, Or.inl ⟨Or.inl c_5, rfl⟩, ⟨by rw [ht]; exact hP, va_K.moved hW.alike hK, hD⟩⟩, hS.F ht⟩) hS.2.2 dX1_shared_17
  · obtain ⟨j, hj, rfl⟩ := vOk_of (by omega) c_5
    have hz_j := (hz j hj).2
    refine lv_aload_n hx hb dX1_shared_8 rfl (lv_at hl 0 rfl) ?_
    refine lv_iload_n hx hb dX1_shared_9 rfl (lv_at hl 2 rfl) ?_
    refine cz_i (As := [.int w]) (rest := []) ⟨hx, hb, hml, hown, hts⟩ (mM_version l D g0 g1 g2 g3 g4 g5 g6 e1 e2 e3 e4 e5 e6 N sz ba tx L co ow dr fr lt z dl w (by omega)) (cwV 1 hts (lw_V q184 q186 qs7 q12 q187) rfl rfl rfl (by decide +kernel) ⟨Nat.le_of_ble_eq_true rfl, Nat.le_of_ble_eq_true rfl⟩) hP hK hD hS hA (ci := 1) rfl rfl rfl rfl hl.1 rfl (Nat.le_of_ble_eq_true rfl) dX1_shared_10 ⟨Nat.zero_le _, Nat.zero_le _⟩ (fun r u H locs hr hP hD hS => ?_)
    have hr : r = bI (vOk N w) := hr
    subst hr
    refine wz_b_ne (tgt := 18) hx hb dX1_shared_13 (by decide) (fun c_13 => ?_) (fun c_13 => ?_)
    · obtain ⟨j2, hj2, rfl⟩ := vOk_of (by omega) c_13
      have hz_j2 := (hz j2 hj2).2
      refine lv_iconst (v := nI 0) hx hb dX1_shared_18 (by decide +kernel) ?_
      refine lv_istore_n (lv' := [(3, .int (nI 0)), (0, .ref g0), (1, .int (nI j)), (2, .int (nI j2))]) hx hb dX1_shared_19 rfl hl (by decide) rfl (fun ls hl => ?_)
      refine lv_iconst (v := nI 0) hx hb dX1_shared_20 (by decide +kernel) ?_
      refine lv_istore (lv' := [(4, .int (nI 0)), (3, .int (nI 0)), (0, .ref g0), (1, .int (nI j)), (2, .int (nI j2))]) hx hb dX1_shared_21 hl (by decide) rfl (fun ls hl => ?_)
      refine lpM_shared hx hb hml hown hts hA hK ⟨Nat.le_of_ble_eq_true rfl, Nat.le_of_ble_eq_true rfl⟩ Z hN hz j j2 hj hj2 (fun H locs hP hD hS ls hl => ?_) (Z j + 1) 0 (Nat.zero_le _) (by omega) _ _ hP hD hS ls (lv_sub hl [2, 3, 4, 1, 0] rfl)
      refine lv_iload_n hx hb dX1_shared_68 rfl (lv_at hl 0 rfl) ?_
      exact W.iret (v := nI (cnt (fun i => has (tv tx j2) (tx (12 * j + i)) (Z j2)) (Z j))) hx hb hret (fun t ht hW => ⟨⟨nI (cnt (fun i => has (tv tx j2) (tx (12 * j + i)) (Z j2)) (Z j)), (), rfl, Or.inr ⟨j, j2, hj, rfl, hj2, rfl, rfl⟩, ⟨by rw [ht]; exact hP, va_K.moved hW.alike hK, hD⟩⟩, hS.F ht⟩) hS.2.2 dX1_shared_69
    · refine lv_iconst (v := -1) hx hb dX1_shared_16 (by decide +kernel) ?_
      exact W.iret (v := -1) hx hb hret (fun t ht hW => ⟨⟨-1, (), rfl, Or.inl ⟨Or.inr c_13, rfl⟩, ⟨by rw [ht]; exact hP, va_K.moved hW.alike hK, hD⟩⟩, hS.F ht⟩) hS.2.2 dX1_shared_17
set_option maxHeartbeats 4000000 in
set_option maxRecDepth 100000 in
theorem mM_placeIn (l : Launch) (D : va_G) (g0 g1 g2 g3 g4 g5 g6 : Nat) (e1 e2 e3 e4 e5 e6 : ClassId) (N : Nat) (sz : Nat → Int32) (ba : Nat → Int32) (tx : Nat → Int32) (L : Nat) (co : Nat → Int32) (ow : Nat → Int32) (dr : Int32) (fr : Int32) (lt : Nat) (z : Nat) (dl : Nat → Int32)  (Z : Nat → Nat) (hN : N ≤ 12) (hz : ∀ j, j < N → sz j = nI (Z j) ∧ Z j ≤ 12) (htx : ∀ j, j < N → ∀ i, i < Z j → ∃ n, n < 30 ∧ tx (12 * j + i) = nI n) (v i w : Int32) : MetI l yX1_placeIn (ws_ yX1_placeIn cX1_placeIn 5 (some .int)) zr2 D (TYM e1 e2 e3 e4 e5 e6) [.ref g0, .int v, .int i, .int w] (MW g0 g1 g2 g3 g4 g5 g6 e1 e2 e3 e4 e5 e6 N sz ba tx L co ow dr fr lt z dl) (fun r (_ : Unit) => matP N Z tx v i r (-1) (mplF N Z tx w)) (fun _ : Unit => MW g0 g1 g2 g3 g4 g5 g6 e1 e2 e3 e4 e5 e6 N sz ba tx L co ow dr fr lt z dl) := by
  intro sz
  refine Met.ofW (cc := cX1_placeIn) (maxL := 5) (ret := some .int) (by decide) rfl ?_
  intro p e s m args below meth c s₁ B hml hv
  obtain ⟨rfl, hsz, hP, hK, hD0⟩ := hv
  have hx := B.exec
  have hb := B.bytes
  have hret := B.returns
  have hts := atoms_spec (ws := ws_ yX1_placeIn cX1_placeIn 5 (some .int)) B.pre
  have hts : ∀ w ∈ lw_all, w.before _ s = true := fun w h => hts w (List.mem_cons_of_mem _ h)
  have hown : s.vm.findClass RX1 = some m.cls := findClass_of_methodNamed B.named
  have hlocks := B.notSynchronized
  subst hsz
  have hD := hD0.self (sz := s.heap.size)
  generalize hAe : va_A (MW g0 g1 g2 g3 g4 g5 g6 e1 e2 e3 e4 e5 e6 N sz ba tx L co ow dr fr lt z dl) s.heap.size = A at hD ⊢
  have hA : ∀ q : Nat, s.heap.size ≤ q → A q := fun q h => by rw [← hAe]; exact Or.inr h
  have hS : va_S A s.heap s.heap [] := va_S.rf
  have hl := lv_entry ([.ref g0, .int v, .int i, .int w]) (n := 5) (Nat.le_of_ble_eq_true rfl)
  rw [lg_entry_eq]
  generalize (lg_sl ([.ref g0, .int v, .int i, .int w]) ++ List.replicate (5 - (lg_sl ([.ref g0, .int v, .int i, .int w])).length) Slot.unset).toArray = ls at hl ⊢
  have hl : lv_has ls 5 [(0, .ref g0), (1, .int v), (2, .int i), (3, .int w)] := hl
  refine lv_aload_n hx hb dX1_placeIn_0 rfl (lv_at hl 0 rfl) ?_
  refine lv_iload_n hx hb dX1_placeIn_1 rfl (lv_at hl 1 rfl) ?_
  refine lv_iload_n hx hb dX1_placeIn_2 rfl (lv_at hl 2 rfl) ?_
  refine cz_i (As := [.int v, .int i]) (rest := []) ⟨hx, hb, hml, hown, hts⟩ (mM_at l D g0 g1 g2 g3 g4 g5 g6 e1 e2 e3 e4 e5 e6 N sz ba tx L co ow dr fr lt z dl Z hN hz v i) (cwV 2 hts (lw_V q217 q219 qs8 q12 q220) rfl rfl rfl (by decide +kernel) ⟨Nat.le_of_ble_eq_true rfl, Nat.le_of_ble_eq_true rfl⟩) hP hK hD hS hA (ci := 1) rfl rfl rfl rfl hl.1 rfl (Nat.le_of_ble_eq_true rfl) dX1_placeIn_3 ⟨Nat.zero_le _, Nat.zero_le _⟩ (fun r u H locs hr hP hD hS => ?_)
  have hr : matP N Z tx v i r (-1) (fun n => n) := hr
  rcases hr with ⟨hno, hr⟩ | ⟨j, ii, hj, hv, hii, hi, hr⟩
  · subst hr
    refine lv_istore (lv' := [(4, .int (-1)), (0, .ref g0), (1, .int v), (2, .int i), (3, .int w)]) hx hb dX1_placeIn_6 hl (by decide) rfl (fun ls hl => ?_)
    refine lv_iload hx hb dX1_placeIn_8 (lv_at hl 0 rfl) ?_
    refine wz_m_lt (tgt := 21) hx hb dX1_placeIn_10 (by decide) ?_
    refine lv_iconst (v := -1) hx hb dX1_placeIn_21 (by decide +kernel) ?_
    refine lv_goto (tgt := 32) hx hb dX1_placeIn_22 (by decide) ?_
    exact W.iret (v := -1) hx hb hret (fun t ht hW => ⟨⟨-1, (), rfl, Or.inl ⟨hno, rfl⟩, ⟨by rw [ht]; exact hP, va_K.moved hW.alike hK, hD⟩⟩, hS.F ht⟩) hS.2.2 dX1_placeIn_32
  · obtain ⟨n, hn, he⟩ := htx j hj ii hii
    have hr : r = nI n := hr.trans he
    subst hr
    refine lv_istore (lv' := [(4, .int (nI n)), (0, .ref g0), (1, .int v), (2, .int i), (3, .int w)]) hx hb dX1_placeIn_6 hl (by decide) rfl (fun ls hl => ?_)
    refine lv_iload hx hb dX1_placeIn_8 (lv_at hl 0 rfl) ?_
    refine wz_n_lt (tgt := 21) hx hb (by omega) dX1_placeIn_10 (by decide) ?_
    refine lv_aload_n hx hb dX1_placeIn_13 rfl (lv_at hl 1 rfl) ?_
    refine lv_iload_n hx hb dX1_placeIn_14 rfl (lv_at hl 4 rfl) ?_
    refine cz_i (As := [.int w]) (rest := []) ⟨hx, hb, hml, hown, hts⟩ (mM_version l D g0 g1 g2 g3 g4 g5 g6 e1 e2 e3 e4 e5 e6 N sz ba tx L co ow dr fr lt z dl w (by omega)) (cwV 1 hts (lw_V q184 q186 qs7 q12 q187) rfl rfl rfl (by decide +kernel) ⟨Nat.le_of_ble_eq_true rfl, Nat.le_of_ble_eq_true rfl⟩) hP hK hD hS hA (ci := 1) rfl rfl rfl rfl hl.1 rfl (Nat.le_of_ble_eq_true rfl) dX1_placeIn_15 ⟨Nat.zero_le _, Nat.zero_le _⟩ (fun r u H locs hr hP hD hS => ?_)
    have hr : r = bI (vOk N w) := hr
    subst hr
    refine wz_b_ne (tgt := 25) hx hb dX1_placeIn_18 (by decide) (fun c_18 => ?_) (fun c_18 => ?_)
    · obtain ⟨j2, hj2, rfl⟩ := vOk_of (by omega) c_18
      have hz_j2 := (hz j2 hj2).2
      refine lv_aload_n hx hb dX1_placeIn_25 rfl (lv_at hl 1 rfl) ?_
      refine lv_iload hx hb dX1_placeIn_26 (lv_at hl 0 rfl) ?_
      refine lv_iload_n hx hb dX1_placeIn_28 rfl (lv_at hl 4 rfl) ?_
      refine cz_i (As := [.int (nI n), .int (nI j2)]) (rest := []) ⟨hx, hb, hml, hown, hts⟩ (mM_find l D g0 g1 g2 g3 g4 g5 g6 e1 e2 e3 e4 e5 e6 N sz ba tx L co ow dr fr lt z dl Z hN hz (nI n) j2 hj2) (cwV 2 hts (lw_V q237 q239 qs9 q12 q240) rfl rfl rfl (by decide +kernel) ⟨Nat.le_of_ble_eq_true rfl, Nat.le_of_ble_eq_true rfl⟩) hP hK hD hS hA (ci := 1) rfl rfl rfl rfl hl.1 rfl (Nat.le_of_ble_eq_true rfl) dX1_placeIn_29 ⟨Nat.zero_le _, Nat.zero_le _⟩ (fun r u H locs hr hP hD hS => ?_)
      have hr : r = ffi (tv tx j2) (nI n) (Z j2) := hr
      subst hr
      exact W.iret (v := ffi (tv tx j2) (nI n) (Z j2)) hx hb hret (fun t ht hW => ⟨⟨ffi (tv tx j2) (nI n) (Z j2), (), rfl, Or.inr ⟨j, ii, hj, hv, hii, hi, by rw [he]; exact (mplF_t hN hj2).symm⟩, ⟨by rw [ht]; exact hP, va_K.moved hW.alike hK, hD⟩⟩, hS.F ht⟩) hS.2.2 dX1_placeIn_32
    · refine lv_iconst (v := -1) hx hb dX1_placeIn_21 (by decide +kernel) ?_
      refine lv_goto (tgt := 32) hx hb dX1_placeIn_22 (by decide) ?_
      exact W.iret (v := -1) hx hb hret (fun t ht hW => ⟨⟨-1, (), rfl, Or.inr ⟨j, ii, hj, hv, hii, hi, (mplF_f c_18).symm⟩, ⟨by rw [ht]; exact hP, va_K.moved hW.alike hK, hD⟩⟩, hS.F ht⟩) hS.2.2 dX1_placeIn_32
set_option maxHeartbeats 4000000 in
set_option maxRecDepth 100000 in
theorem lpM_having {p : Program} {l : Launch} {e : Env} {R : Room} {s : State} {m : MethodId} {args : Array Value} {below : List Frame} {meth : Method} {c : Code} {Q : State → Prop} {D : va_G} {A : Nat → Prop} {g0 g1 g2 g3 g4 g5 g6 : Nat} {e1 e2 e3 e4 e5 e6 : ClassId} {N : Nat} {sz : Nat → Int32} {ba : Nat → Int32} {tx : Nat → Int32} {L : Nat} {co : Nat → Int32} {ow : Nat → Int32} {dr : Int32} {fr : Int32} {lt : Nat} {z : Nat} {dl : Nat → Int32} (hx : p.tables.exec = Jvm.exec) (hb : c.code = cX1_having) (hml : c.maxLocals = 6) (hown : s.vm.findClass RX1 = some m.cls) (hts : ∀ w ∈ lw_all, w.before args s = true) (hA : ∀ q : Nat, s.heap.size ≤ q → A q) (hK : va_K D vwCl (TYM e1 e2 e3 e4 e5 e6) s) (hR : 1 ≤ R.frames ∧ 30 ≤ R.locals) (Z : Nat → Nat) (hN : N ≤ 12) (hz : ∀ j, j < N → sz j = nI (Z j) ∧ Z j ≤ 12) (k : Nat) (hk30 : k < 30) (hk : ∀ (H : Heap) (locs : List Loc), va_P D vwCl (MW g0 g1 g2 g3 g4 g5 g6 e1 e2 e3 e4 e5 e6 N sz ba tx L co ow dr fr lt z dl) H → va_D A (MW g0 g1 g2 g3 g4 g5 g6 e1 e2 e3 e4 e5 e6 N sz ba tx L co ow dr fr lt z dl) → va_S A s.heap H locs → ∀ ls : Array Slot, lv_has ls 6 [(4, .int (bset (fun w => has (tv tx w) (nI k) (Z w)) N))] → W p l e R s m args below meth c H locs 0 0 Q (F0 m 56 ls [])) : ∀ (n i : Nat), i ≤ N → N + 1 ≤ i + n → ∀ (H : Heap) (locs : List Loc), va_P D vwCl (MW g0 g1 g2 g3 g4 g5 g6 e1 e2 e3 e4 e5 e6 N sz ba tx L co ow dr fr lt z dl) H → va_D A (MW g0 g1 g2 g3 g4 g5 g6 e1 e2 e3 e4 e5 e6 N sz ba tx L co ow dr fr lt z dl) → va_S A s.heap H locs → ∀ ls : Array Slot, lv_has ls 6 [(0, .ref g0), (3, .int (nI k)), (4, .int (bset (fun w => has (tv tx w) (nI k) (Z w)) i)), (5, .int (nI i))] → W p l e R s m args below meth c H locs 0 0 Q (F0 m 13 ls []) := by
  intro n
  induction n with
  | zero =>
    intro i h1 h2
    exact absurd h2 (by omega)
  | succ n ih =>
    intro i hi hn H locs hP hD hS ls hl
    refine lv_iload hx hb dX1_having_13 (lv_at hl 3 rfl) ?_
    refine lv_aload_n hx hb dX1_having_15 rfl (lv_at hl 0 rfl) ?_
    refine gM_count hx hb hts hown hK hP dX1_having_16 ?_
    refine wz_ge (tgt := 56) hx hb (by omega) (by omega) dX1_having_19 (by decide) (fun c_19 => ?_) (fun c_19 => ?_)
    · rw [show i = N from by omega] at hl
      exact hk _ _ hP hD hS ls (lv_sub hl [2] rfl)
    · refine lv_iload_n hx hb dX1_having_22 rfl (lv_at hl 1 rfl) ?_
      refine wz_n_lt (tgt := 56) hx hb (by omega) dX1_having_23 (by decide) ?_
      refine lv_aload_n hx hb dX1_having_26 rfl (lv_at hl 0 rfl) ?_
      refine lv_iload_n hx hb dX1_having_27 rfl (lv_at hl 1 rfl) ?_
      refine lv_iload hx hb dX1_having_28 (lv_at hl 3 rfl) ?_
      have hzi := (hz i c_19).2
      refine cz_i (As := [.int (nI k), .int (nI i)]) (rest := []) ⟨hx, hb, hml, hown, hts⟩ (mM_find l D g0 g1 g2 g3 g4 g5 g6 e1 e2 e3 e4 e5 e6 N sz ba tx L co ow dr fr lt z dl Z hN hz (nI k) i c_19) (cwV 2 hts (lw_V q237 q239 qs9 q12 q240) rfl rfl rfl (by decide +kernel) ⟨Nat.le_trans (Nat.le_of_ble_eq_true rfl) hR.1, Nat.le_trans (Nat.le_of_ble_eq_true rfl) hR.2⟩) hP hK hD hS hA (ci := 1) rfl rfl rfl rfl hl.1 rfl (Nat.le_of_ble_eq_true rfl) dX1_having_30 ⟨Nat.zero_le _, Nat.zero_le _⟩ (fun r u H locs hr hP hD hS => ?_)
      have hr : r = ffi (tv tx i) (nI k) (Z i) := hr
      rcases ffi_cases (tv tx i) (nI k) (Z i) with ⟨q1, q2⟩ | ⟨q1, i2, hi2, he2, hf2⟩
      · have hr : r = -1 := hr.trans q2
        subst hr
        refine wz_m_lt (tgt := 46) hx hb dX1_having_33 (by decide) ?_
        refine lv_iload hx hb dX1_having_46 (lv_at hl 2 rfl) ?_
        refine wz_top (x := bset (fun w => has (tv tx w) (nI k) (Z w)) i) (y := bset (fun w => has (tv tx w) (nI k) (Z w)) (i + 1)) (bset_f (f := fun w => has (tv tx w) (nI k) (Z w)) (k := i) q1) ?_
        refine lv_istore (lv' := [(4, .int (bset (fun w => has (tv tx w) (nI k) (Z w)) (i + 1))), (0, .ref g0), (3, .int (nI k)), (5, .int (nI i))]) hx hb dX1_having_48 hl (by decide) rfl (fun ls hl => ?_)
        refine lv_iinc (v := nI (i + 1)) (lv' := [(5, .int (nI (i + 1))), (4, .int (bset (fun w => has (tv tx w) (nI k) (Z w)) (i + 1))), (0, .ref g0), (3, .int (nI k))]) hx hb dX1_having_50 hl (k := 3) rfl (wz_inc1 i) (by decide) rfl (fun ls hl => ?_)
        refine lv_goto (tgt := 13) hx hb dX1_having_53 (by decide) ?_
        exact ih (i + 1) (by omega) (by omega) _ _ hP hD hS ls (lv_sub hl [2, 3, 1, 0] rfl)
      · have hr : r = nI i2 := hr.trans hf2
        subst hr
        refine wz_n_lt (tgt := 46) hx hb (by omega) dX1_having_33 (by decide) ?_
        refine lv_iload hx hb dX1_having_36 (lv_at hl 2 rfl) ?_
        refine lv_iconst (v := nI 1) hx hb dX1_having_38 (by decide +kernel) ?_
        refine lv_iload hx hb dX1_having_39 (lv_at hl 3 rfl) ?_
        refine lv_ishl hx hb dX1_having_41 ?_
        refine lv_ior hx hb dX1_having_42 ?_
        refine wz_top (x := (bset (fun w => has (tv tx w) (nI k) (Z w)) i) ||| ((nI 1) <<< ((nI i) &&& 31))) (y := bset (fun w => has (tv tx w) (nI k) (Z w)) (i + 1)) (bset_t (f := fun w => has (tv tx w) (nI k) (Z w)) (k := i) q1) ?_
        refine lv_goto (tgt := 48) hx hb dX1_having_43 (by decide) ?_
        refine lv_istore (lv' := [(4, .int (bset (fun w => has (tv tx w) (nI k) (Z w)) (i + 1))), (0, .ref g0), (3, .int (nI k)), (5, .int (nI i))]) hx hb dX1_having_48 hl (by decide) rfl (fun ls hl => ?_)
        refine lv_iinc (v := nI (i + 1)) (lv' := [(5, .int (nI (i + 1))), (4, .int (bset (fun w => has (tv tx w) (nI k) (Z w)) (i + 1))), (0, .ref g0), (3, .int (nI k))]) hx hb dX1_having_50 hl (k := 3) rfl (wz_inc1 i) (by decide) rfl (fun ls hl => ?_)
        refine lv_goto (tgt := 13) hx hb dX1_having_53 (by decide) ?_
        exact ih (i + 1) (by omega) (by omega) _ _ hP hD hS ls (lv_sub hl [2, 3, 1, 0] rfl)
set_option maxHeartbeats 4000000 in
set_option maxRecDepth 100000 in
theorem mM_having (l : Launch) (D : va_G) (g0 g1 g2 g3 g4 g5 g6 : Nat) (e1 e2 e3 e4 e5 e6 : ClassId) (N : Nat) (sz : Nat → Int32) (ba : Nat → Int32) (tx : Nat → Int32) (L : Nat) (co : Nat → Int32) (ow : Nat → Int32) (dr : Int32) (fr : Int32) (lt : Nat) (z : Nat) (dl : Nat → Int32)  (Z : Nat → Nat) (hN : N ≤ 12) (hz : ∀ j, j < N → sz j = nI (Z j) ∧ Z j ≤ 12) (htx : ∀ j, j < N → ∀ i, i < Z j → ∃ n, n < 30 ∧ tx (12 * j + i) = nI n) (v i : Int32) : MetI l yX1_having (ws_ yX1_having cX1_having 6 (some .int)) zr2 D (TYM e1 e2 e3 e4 e5 e6) [.ref g0, .int v, .int i] (MW g0 g1 g2 g3 g4 g5 g6 e1 e2 e3 e4 e5 e6 N sz ba tx L co ow dr fr lt z dl) (fun r (_ : Unit) => matP N Z tx v i r (nI 0) (fun n => bset (fun w => has (tv tx w) n (Z w)) N)) (fun _ : Unit => MW g0 g1 g2 g3 g4 g5 g6 e1 e2 e3 e4 e5 e6 N sz ba tx L co ow dr fr lt z dl) := by
  intro sz
  refine Met.ofW (cc := cX1_having) (maxL := 6) (ret := some .int) (by decide) rfl ?_
  intro p e s m args below meth c s₁ B hml hv
  obtain ⟨rfl, hsz, hP, hK, hD0⟩ := hv
  have hx := B.exec
  have hb := B.bytes
  have hret := B.returns
  have hts := atoms_spec (ws := ws_ yX1_having cX1_having 6 (some .int)) B.pre
  have hts : ∀ w ∈ lw_all, w.before _ s = true := fun w h => hts w (List.mem_cons_of_mem _ h)
  have hown : s.vm.findClass RX1 = some m.cls := findClass_of_methodNamed B.named
  have hlocks := B.notSynchronized
  subst hsz
  have hD := hD0.self (sz := s.heap.size)
  generalize hAe : va_A (MW g0 g1 g2 g3 g4 g5 g6 e1 e2 e3 e4 e5 e6 N sz ba tx L co ow dr fr lt z dl) s.heap.size = A at hD ⊢
  have hA : ∀ q : Nat, s.heap.size ≤ q → A q := fun q h => by rw [← hAe]; exact Or.inr h
  have hS : va_S A s.heap s.heap [] := va_S.rf
  have hl := lv_entry ([.ref g0, .int v, .int i]) (n := 6) (Nat.le_of_ble_eq_true rfl)
  rw [lg_entry_eq]
  generalize (lg_sl ([.ref g0, .int v, .int i]) ++ List.replicate (6 - (lg_sl ([.ref g0, .int v, .int i])).length) Slot.unset).toArray = ls at hl ⊢
  have hl : lv_has ls 6 [(0, .ref g0), (1, .int v), (2, .int i)] := hl
  refine lv_aload_n hx hb dX1_having_0 rfl (lv_at hl 0 rfl) ?_
  refine lv_iload_n hx hb dX1_having_1 rfl (lv_at hl 1 rfl) ?_
  refine lv_iload_n hx hb dX1_having_2 rfl (lv_at hl 2 rfl) ?_
  refine cz_i (As := [.int v, .int i]) (rest := []) ⟨hx, hb, hml, hown, hts⟩ (mM_at l D g0 g1 g2 g3 g4 g5 g6 e1 e2 e3 e4 e5 e6 N sz ba tx L co ow dr fr lt z dl Z hN hz v i) (cwV 2 hts (lw_V q217 q219 qs8 q12 q220) rfl rfl rfl (by decide +kernel) ⟨Nat.le_of_ble_eq_true rfl, Nat.le_of_ble_eq_true rfl⟩) hP hK hD hS hA (ci := 1) rfl rfl rfl rfl hl.1 rfl (Nat.le_of_ble_eq_true rfl) dX1_having_3 ⟨Nat.zero_le _, Nat.zero_le _⟩ (fun r u H locs hr hP hD hS => ?_)
  have hr : matP N Z tx v i r (-1) (fun n => n) := hr
  rcases hr with ⟨hno, hr⟩ | ⟨j, ii, hj, hv, hii, hi, hr⟩
  · subst hr
    refine lv_istore_n (lv' := [(3, .int (-1)), (0, .ref g0), (1, .int v), (2, .int i)]) hx hb dX1_having_6 rfl hl (by decide) rfl (fun ls hl => ?_)
    refine lv_iconst (v := nI 0) hx hb dX1_having_7 (by decide +kernel) ?_
    refine lv_istore (lv' := [(4, .int (nI 0)), (3, .int (-1)), (0, .ref g0), (1, .int v), (2, .int i)]) hx hb dX1_having_8 hl (by decide) rfl (fun ls hl => ?_)
    refine lv_iconst (v := nI 0) hx hb dX1_having_10 (by decide +kernel) ?_
    refine lv_istore (lv' := [(5, .int (nI 0)), (4, .int (nI 0)), (3, .int (-1)), (0, .ref g0), (1, .int v), (2, .int i)]) hx hb dX1_having_11 hl (by decide) rfl (fun ls hl => ?_)
    refine lv_iload hx hb dX1_having_13 (lv_at hl 0 rfl) ?_
    refine lv_aload_n hx hb dX1_having_15 rfl (lv_at hl 3 rfl) ?_
    refine gM_count hx hb hts hown hK hP dX1_having_16 ?_
    refine wz_ge (tgt := 56) hx hb (by omega) (by omega) dX1_having_19 (by decide) (fun c_19 => ?_) (fun c_19 => ?_)
    · refine lv_iload hx hb dX1_having_56 (lv_at hl 1 rfl) ?_
      exact W.iret (v := nI 0) hx hb hret (fun t ht hW => ⟨⟨nI 0, (), rfl, Or.inl ⟨hno, rfl⟩, ⟨by rw [ht]; exact hP, va_K.moved hW.alike hK, hD⟩⟩, hS.F ht⟩) hS.2.2 dX1_having_58
    · refine lv_iload_n hx hb dX1_having_22 rfl (lv_at hl 2 rfl) ?_
      refine wz_m_lt (tgt := 56) hx hb dX1_having_23 (by decide) ?_
      refine lv_iload hx hb dX1_having_56 (lv_at hl 1 rfl) ?_
      exact W.iret (v := nI 0) hx hb hret (fun t ht hW => ⟨⟨nI 0, (), rfl, Or.inl ⟨hno, rfl⟩, ⟨by rw [ht]; exact hP, va_K.moved hW.alike hK, hD⟩⟩, hS.F ht⟩) hS.2.2 dX1_having_58
  · obtain ⟨n, hn, he⟩ := htx j hj ii hii
    have hr : r = nI n := hr.trans he
    subst hr
    refine lv_istore_n (lv' := [(3, .int (nI n)), (0, .ref g0), (1, .int v), (2, .int i)]) hx hb dX1_having_6 rfl hl (by decide) rfl (fun ls hl => ?_)
    refine lv_iconst (v := nI 0) hx hb dX1_having_7 (by decide +kernel) ?_
    refine lv_istore (lv' := [(4, .int (nI 0)), (3, .int (nI n)), (0, .ref g0), (1, .int v), (2, .int i)]) hx hb dX1_having_8 hl (by decide) rfl (fun ls hl => ?_)
    refine lv_iconst (v := nI 0) hx hb dX1_having_10 (by decide +kernel) ?_
    refine lv_istore (lv' := [(5, .int (nI 0)), (4, .int (nI 0)), (3, .int (nI n)), (0, .ref g0), (1, .int v), (2, .int i)]) hx hb dX1_having_11 hl (by decide) rfl (fun ls hl => ?_)
    refine lpM_having hx hb hml hown hts hA hK ⟨Nat.le_of_ble_eq_true rfl, Nat.le_of_ble_eq_true rfl⟩ Z hN hz n hn (fun H locs hP hD hS ls hl => ?_) (N + 1) 0 (Nat.zero_le N) (by omega) _ _ hP hD hS ls (lv_sub hl [3, 2, 1, 0] rfl)
    refine lv_iload hx hb dX1_having_56 (lv_at hl 0 rfl) ?_
    exact W.iret (v := bset (fun w => has (tv tx w) (nI n) (Z w)) N) hx hb hret (fun t ht hW => ⟨⟨bset (fun w => has (tv tx w) (nI n) (Z w)) N, (), rfl, Or.inr ⟨j, ii, hj, hv, hii, hi, by rw [he]⟩, ⟨by rw [ht]; exact hP, va_K.moved hW.alike hK, hD⟩⟩, hS.F ht⟩) hS.2.2 dX1_having_58
set_option maxHeartbeats 4000000 in
set_option maxRecDepth 100000 in
theorem lpM_draft {p : Program} {l : Launch} {e : Env} {R : Room} {s : State} {m : MethodId} {args : Array Value} {below : List Frame} {meth : Method} {c : Code} {Q : State → Prop} {D : va_G} {A : Nat → Prop} {g0 g1 g2 g3 g4 g5 g6 : Nat} {e1 e2 e3 e4 e5 e6 : ClassId} {N : Nat} {sz : Nat → Int32} {ba : Nat → Int32} {tx : Nat → Int32} {L : Nat} {co : Nat → Int32} {ow : Nat → Int32} {dr : Int32} {fr : Int32} {lt : Nat} {z : Nat} {dl : Nat → Int32} (hx : p.tables.exec = Jvm.exec) (hb : c.code = cX1_draft) (hml : c.maxLocals = 4) (hown : s.vm.findClass RX1 = some m.cls) (hts : ∀ w ∈ lw_all, w.before args s = true) (hA : ∀ q : Nat, s.heap.size ≤ q → A q) (hK : va_K D vwCl (TYM e1 e2 e3 e4 e5 e6) s) (hR : 0 ≤ R.frames ∧ 0 ≤ R.locals) (v : Int32) (hz12 : z ≤ 12) (hk : ∀ (H : Heap) (locs : List Loc), va_P D vwCl (MW g0 g1 g2 g3 g4 g5 g6 e1 e2 e3 e4 e5 e6 N sz ba tx L co ow dr fr lt z dl) H → va_D A (MW g0 g1 g2 g3 g4 g5 g6 e1 e2 e3 e4 e5 e6 N sz ba tx L co ow dr fr lt z dl) → va_S A s.heap H locs → ∀ ls : Array Slot, lv_has ls 4 [(0, .ref g0), (1, .int v), (2, .int (nI (cnt (fun i => decide (¬ dl i < nI lt)) z)))] → W p l e R s m args below meth c H locs 0 0 Q (F0 m 57 ls [])) : ∀ (n i : Nat), i ≤ z → z + 1 ≤ i + n → ∀ (H : Heap) (locs : List Loc), va_P D vwCl (MW g0 g1 g2 g3 g4 g5 g6 e1 e2 e3 e4 e5 e6 N sz ba tx L co ow dr fr lt z dl) H → va_D A (MW g0 g1 g2 g3 g4 g5 g6 e1 e2 e3 e4 e5 e6 N sz ba tx L co ow dr fr lt z dl) → va_S A s.heap H locs → ∀ ls : Array Slot, lv_has ls 4 [(0, .ref g0), (1, .int v), (2, .int (nI (cnt (fun i => decide (¬ dl i < nI lt)) i))), (3, .int (nI i))] → W p l e R s m args below meth c H locs 0 0 Q (F0 m 22 ls []) := by
  intro n
  induction n with
  | zero =>
    intro i h1 h2
    exact absurd h2 (by omega)
  | succ n ih =>
    intro i hi hn H locs hP hD hS ls hl
    refine lv_iload_n hx hb dX1_draft_22 rfl (lv_at hl 3 rfl) ?_
    refine lv_aload_n hx hb dX1_draft_23 rfl (lv_at hl 0 rfl) ?_
    refine gM_size hx hb hts hown hK hP dX1_draft_24 ?_
    refine wz_ge (tgt := 57) hx hb (by omega) (by omega) dX1_draft_27 (by decide) (fun c_27 => ?_) (fun c_27 => ?_)
    · rw [show i = z from by omega] at hl
      exact hk _ _ hP hD hS ls (lv_sub hl [0, 1, 2] rfl)
    · refine lv_aload_n hx hb dX1_draft_30 rfl (lv_at hl 0 rfl) ?_
      refine gM_draftLines hx hb hts hown hK hP dX1_draft_31 ?_
      refine lv_iload_n hx hb dX1_draft_34 rfl (lv_at hl 3 rfl) ?_
      refine lM_draftLines hx hb hK hP (i := i) (by omega) dX1_draft_35 ?_
      refine lv_aload_n hx hb dX1_draft_36 rfl (lv_at hl 0 rfl) ?_
      refine gM_linesThen hx hb hts hown hK hP dX1_draft_37 ?_
      refine lv_icmp_lt (tgt := 49) hx hb dX1_draft_40 (by decide) (fun c_40 => ?_) (fun c_40 => ?_)
      · refine lv_iload_n hx hb dX1_draft_49 rfl (lv_at hl 2 rfl) ?_
        refine lv_istore_n (lv' := [(2, .int (nI (cnt (fun i => decide (¬ dl i < nI lt)) i))), (0, .ref g0), (1, .int v), (3, .int (nI i))]) hx hb dX1_draft_50 rfl hl (by decide) rfl (fun ls hl => ?_)
        refine lv_iinc (v := nI (i + 1)) (lv' := [(3, .int (nI (i + 1))), (2, .int (nI (cnt (fun i => decide (¬ dl i < nI lt)) i))), (0, .ref g0), (1, .int v)]) hx hb dX1_draft_51 hl (k := 3) rfl (wz_inc1 i) (by decide) rfl (fun ls hl => ?_)
        refine lv_goto (tgt := 22) hx hb dX1_draft_54 (by decide) ?_
        have hcs := cnt_f (p := fun i => decide (¬ dl i < nI lt)) (n := i) (decide_eq_false (fun q => q c_40))
        exact ih (i + 1) (by omega) (by omega) _ _ hP hD hS ls (lv_sub hl [2, 3, 1, 0] (by rw [hcs]; rfl))
      · refine lv_iload_n hx hb dX1_draft_43 rfl (lv_at hl 2 rfl) ?_
        refine lv_iconst (v := nI 1) hx hb dX1_draft_44 (by decide +kernel) ?_
        refine wz_iadd hx hb dX1_draft_45 ?_
        refine lv_goto (tgt := 50) hx hb dX1_draft_46 (by decide) ?_
        refine lv_istore_n (lv' := [(2, .int (nI ((cnt (fun i => decide (¬ dl i < nI lt)) i) + 1))), (0, .ref g0), (1, .int v), (3, .int (nI i))]) hx hb dX1_draft_50 rfl hl (by decide) rfl (fun ls hl => ?_)
        refine lv_iinc (v := nI (i + 1)) (lv' := [(3, .int (nI (i + 1))), (2, .int (nI ((cnt (fun i => decide (¬ dl i < nI lt)) i) + 1))), (0, .ref g0), (1, .int v)]) hx hb dX1_draft_51 hl (k := 3) rfl (wz_inc1 i) (by decide) rfl (fun ls hl => ?_)
        refine lv_goto (tgt := 22) hx hb dX1_draft_54 (by decide) ?_
        have hcs := cnt_t (p := fun i => decide (¬ dl i < nI lt)) (n := i) (decide_eq_true c_40)
        exact ih (i + 1) (by omega) (by omega) _ _ hP hD hS ls (lv_sub hl [2, 3, 1, 0] (by rw [hcs]; rfl))
set_option maxHeartbeats 4000000 in
set_option maxRecDepth 100000 in
theorem mM_draft (l : Launch) (D : va_G) (g0 g1 g2 g3 g4 g5 g6 : Nat) (e1 e2 e3 e4 e5 e6 : ClassId) (N : Nat) (sz : Nat → Int32) (ba : Nat → Int32) (tx : Nat → Int32) (L : Nat) (co : Nat → Int32) (ow : Nat → Int32) (dr : Int32) (fr : Int32) (lt : Nat) (z : Nat) (dl : Nat → Int32)  (hz12 : z ≤ 12) (v : Int32) : MetI l yX1_draft (ws_ yX1_draft cX1_draft 4 (some .int)) zr0 D (TYM e1 e2 e3 e4 e5 e6) [.ref g0, .int v] (MW g0 g1 g2 g3 g4 g5 g6 e1 e2 e3 e4 e5 e6 N sz ba tx L co ow dr fr lt z dl) (fun r (_ : Unit) => r = drf dr v z (cnt (fun i => decide (¬ dl i < nI lt)) z)) (fun _ : Unit => MW g0 g1 g2 g3 g4 g5 g6 e1 e2 e3 e4 e5 e6 N sz ba tx L co ow dr fr lt z dl) := by
  intro sz
  refine Met.ofW (cc := cX1_draft) (maxL := 4) (ret := some .int) (by decide) rfl ?_
  intro p e s m args below meth c s₁ B hml hv
  obtain ⟨rfl, hsz, hP, hK, hD0⟩ := hv
  have hx := B.exec
  have hb := B.bytes
  have hret := B.returns
  have hts := atoms_spec (ws := ws_ yX1_draft cX1_draft 4 (some .int)) B.pre
  have hts : ∀ w ∈ lw_all, w.before _ s = true := fun w h => hts w (List.mem_cons_of_mem _ h)
  have hown : s.vm.findClass RX1 = some m.cls := findClass_of_methodNamed B.named
  have hlocks := B.notSynchronized
  subst hsz
  have hD := hD0.self (sz := s.heap.size)
  generalize hAe : va_A (MW g0 g1 g2 g3 g4 g5 g6 e1 e2 e3 e4 e5 e6 N sz ba tx L co ow dr fr lt z dl) s.heap.size = A at hD ⊢
  have hA : ∀ q : Nat, s.heap.size ≤ q → A q := fun q h => by rw [← hAe]; exact Or.inr h
  have hS : va_S A s.heap s.heap [] := va_S.rf
  have hl := lv_entry ([.ref g0, .int v]) (n := 4) (Nat.le_of_ble_eq_true rfl)
  rw [lg_entry_eq]
  generalize (lg_sl ([.ref g0, .int v]) ++ List.replicate (4 - (lg_sl ([.ref g0, .int v])).length) Slot.unset).toArray = ls at hl ⊢
  have hl : lv_has ls 4 [(0, .ref g0), (1, .int v)] := hl
  refine lv_aload_n hx hb dX1_draft_0 rfl (lv_at hl 0 rfl) ?_
  refine gM_drafting hx hb hts hown hK hP dX1_draft_1 ?_
  refine lv_if_eq (tgt := 16) hx hb dX1_draft_4 (by decide) (fun c_4 => ?_) (fun c_4 => ?_)
  · refine lv_iconst (v := -1) hx hb dX1_draft_16 (by decide +kernel) ?_
    exact W.iret (v := -1) hx hb hret (fun t ht hW => ⟨⟨-1, (), rfl, (drf_bad (Or.inl c_4)).symm, ⟨by rw [ht]; exact hP, va_K.moved hW.alike hK, hD⟩⟩, hS.F ht⟩) hS.2.2 dX1_draft_17
  · refine lv_iload_n hx hb dX1_draft_7 rfl (lv_at hl 1 rfl) ?_
    refine lv_if_lt (tgt := 16) hx hb dX1_draft_8 (by decide) (fun c_8 => ?_) (fun c_8 => ?_)
    · refine lv_iconst (v := -1) hx hb dX1_draft_16 (by decide +kernel) ?_
      exact W.iret (v := -1) hx hb hret (fun t ht hW => ⟨⟨-1, (), rfl, (drf_bad (Or.inr (Or.inl c_8))).symm, ⟨by rw [ht]; exact hP, va_K.moved hW.alike hK, hD⟩⟩, hS.F ht⟩) hS.2.2 dX1_draft_17
    · refine lv_iload_n hx hb dX1_draft_11 rfl (lv_at hl 1 rfl) ?_
      refine lv_iconst (v := nI 2) hx hb dX1_draft_12 (by decide +kernel) ?_
      refine lv_icmp_le (tgt := 18) hx hb dX1_draft_13 (by decide) (fun c_13 => ?_) (fun c_13 => ?_)
      · refine lv_iconst (v := nI 0) hx hb dX1_draft_18 (by decide +kernel) ?_
        refine lv_istore_n (lv' := [(2, .int (nI 0)), (0, .ref g0), (1, .int v)]) hx hb dX1_draft_19 rfl hl (by decide) rfl (fun ls hl => ?_)
        refine lv_iconst (v := nI 0) hx hb dX1_draft_20 (by decide +kernel) ?_
        refine lv_istore_n (lv' := [(3, .int (nI 0)), (2, .int (nI 0)), (0, .ref g0), (1, .int v)]) hx hb dX1_draft_21 rfl hl (by decide) rfl (fun ls hl => ?_)
        refine lpM_draft hx hb hml hown hts hA hK ⟨Nat.le_of_ble_eq_true rfl, Nat.le_of_ble_eq_true rfl⟩ v hz12 (fun H locs hP hD hS ls hl => ?_) (z + 1) 0 (Nat.zero_le z) (by omega) _ _ hP hD hS ls (lv_sub hl [2, 3, 1, 0] rfl)
        refine lv_iload_n hx hb dX1_draft_57 rfl (lv_at hl 1 rfl) ?_
        refine lv_if_ne (tgt := 68) hx hb dX1_draft_58 (by decide) (fun c_58 => ?_) (fun c_58 => ?_)
        · refine lv_iload_n hx hb dX1_draft_68 rfl (lv_at hl 1 rfl) ?_
          refine lv_iconst (v := nI 1) hx hb dX1_draft_69 (by decide +kernel) ?_
          refine lv_icmp_ne (tgt := 82) hx hb dX1_draft_70 (by decide) (fun c_70 => ?_) (fun c_70 => ?_)
          · refine lv_iload_n hx hb dX1_draft_82 rfl (lv_at hl 2 rfl) ?_
            exact W.iret (v := nI (cnt (fun i => decide (¬ dl i < nI lt)) z)) hx hb hret (fun t ht hW => ⟨⟨nI (cnt (fun i => decide (¬ dl i < nI lt)) z), (), rfl, (drf_2 (not_drBad c_4 c_8 c_13) c_58 c_70).symm, ⟨by rw [ht]; exact hP, va_K.moved hW.alike hK, hD⟩⟩, hS.F ht⟩) hS.2.2 dX1_draft_83
          · refine lv_aload_n hx hb dX1_draft_73 rfl (lv_at hl 0 rfl) ?_
            refine gM_size hx hb hts hown hK hP dX1_draft_74 ?_
            refine lv_iload_n hx hb dX1_draft_77 rfl (lv_at hl 2 rfl) ?_
            refine lv_isub hx hb dX1_draft_78 ?_
            refine lv_goto (tgt := 83) hx hb dX1_draft_79 (by decide) ?_
            exact W.iret (v := (nI z) - (nI (cnt (fun i => decide (¬ dl i < nI lt)) z))) hx hb hret (fun t ht hW => ⟨⟨(nI z) - (nI (cnt (fun i => decide (¬ dl i < nI lt)) z)), (), rfl, (drf_1 (not_drBad c_4 c_8 c_13) c_58 c_70).symm, ⟨by rw [ht]; exact hP, va_K.moved hW.alike hK, hD⟩⟩, hS.F ht⟩) hS.2.2 dX1_draft_83
        · refine lv_aload_n hx hb dX1_draft_61 rfl (lv_at hl 0 rfl) ?_
          refine gM_size hx hb hts hown hK hP dX1_draft_62 ?_
          refine lv_goto (tgt := 83) hx hb dX1_draft_65 (by decide) ?_
          exact W.iret (v := nI z) hx hb hret (fun t ht hW => ⟨⟨nI z, (), rfl, (drf_0 (not_drBad c_4 c_8 c_13) c_58).symm, ⟨by rw [ht]; exact hP, va_K.moved hW.alike hK, hD⟩⟩, hS.F ht⟩) hS.2.2 dX1_draft_83
      · refine lv_iconst (v := -1) hx hb dX1_draft_16 (by decide +kernel) ?_
        exact W.iret (v := -1) hx hb hret (fun t ht hW => ⟨⟨-1, (), rfl, (drf_bad (Or.inr (Or.inr (Int32.not_le.mp c_13)))).symm, ⟨by rw [ht]; exact hP, va_K.moved hW.alike hK, hD⟩⟩, hS.F ht⟩) hS.2.2 dX1_draft_17
end
section
/-! WeaveStoreModel: open, put, cut, close -/
set_option maxHeartbeats 4000000 in
set_option maxRecDepth 100000 in
theorem lpM_open {p : Program} {l : Launch} {e : Env} {R : Room} {s : State} {m : MethodId} {args : Array Value} {below : List Frame} {meth : Method} {c : Code} {Q : State → Prop} {D : va_G} {A : Nat → Prop} {g0 g1 g2 g3 g4 g5 g6 : Nat} {e1 e2 e3 e4 e5 e6 : ClassId} {N : Nat} {sz : Nat → Int32} {ba : Nat → Int32} {tx : Nat → Int32} {L : Nat} {co : Nat → Int32} {ow : Nat → Int32} {dr : Int32} {fr : Int32} {lt : Nat} {z : Nat} {dl : Nat → Int32} (hx : p.tables.exec = Jvm.exec) (hb : c.code = cX1_open) (hml : c.maxLocals = 3) (hown : s.vm.findClass RX1 = some m.cls) (hts : ∀ w ∈ lw_all, w.before args s = true) (hA : ∀ q : Nat, s.heap.size ≤ q → A q) (hK : va_K D vwCl (TYM e1 e2 e3 e4 e5 e6) s) (hR : 0 ≤ R.frames ∧ 0 ≤ R.locals) (j : Nat) (hj : j < 12) (hz12 : z ≤ 12) (hk : ∀ dl1 : Nat → Int32, (∀ k, k < z → dl1 k = tx (12 * j + k)) → ∀ (H : Heap) (locs : List Loc), va_P D vwCl (MW g0 g1 g2 g3 g4 g5 g6 e1 e2 e3 e4 e5 e6 N sz ba tx L co ow dr fr lt z dl1) H → va_D A (MW g0 g1 g2 g3 g4 g5 g6 e1 e2 e3 e4 e5 e6 N sz ba tx L co ow dr fr lt z dl1) → va_S A s.heap H locs → ∀ ls : Array Slot, lv_has ls 3 [(0, .ref g0)] → W p l e R s m args below meth c H locs 0 0 Q (F0 m 76 ls [])) : ∀ (n i : Nat) (dl1 : Nat → Int32), i ≤ z → z + 1 ≤ i + n → (∀ k, k < i → dl1 k = tx (12 * j + k)) → ∀ (H : Heap) (locs : List Loc), va_P D vwCl (MW g0 g1 g2 g3 g4 g5 g6 e1 e2 e3 e4 e5 e6 N sz ba tx L co ow dr fr lt z dl1) H → va_D A (MW g0 g1 g2 g3 g4 g5 g6 e1 e2 e3 e4 e5 e6 N sz ba tx L co ow dr fr lt z dl1) → va_S A s.heap H locs → ∀ ls : Array Slot, lv_has ls 3 [(0, .ref g0), (1, .int (nI j)), (2, .int (nI i))] → W p l e R s m args below meth c H locs 0 0 Q (F0 m 45 ls []) := by
  intro n
  induction n with
  | zero =>
    intro i dl1 h1 h2
    exact absurd h2 (by omega)
  | succ n ih =>
    intro i dl1 hi hn hd H locs hP hD hS ls hl
    refine lv_iload_n hx hb dX1_open_45 rfl (lv_at hl 2 rfl) ?_
    refine lv_aload_n hx hb dX1_open_46 rfl (lv_at hl 0 rfl) ?_
    refine gM_size hx hb hts hown hK hP dX1_open_47 ?_
    refine wz_ge (tgt := 76) hx hb (by omega) (by omega) dX1_open_50 (by decide) (fun c_50 => ?_) (fun c_50 => ?_)
    · exact hk dl1 (by rw [show i = z from by omega] at hd; exact hd) _ _ hP hD hS ls (lv_sub hl [0] rfl)
    · refine lv_aload_n hx hb dX1_open_53 rfl (lv_at hl 0 rfl) ?_
      refine gM_draftLines hx hb hts hown hK hP dX1_open_54 ?_
      refine lv_iload_n hx hb dX1_open_57 rfl (lv_at hl 2 rfl) ?_
      refine lv_aload_n hx hb dX1_open_58 rfl (lv_at hl 0 rfl) ?_
      refine gM_texts hx hb hts hown hK hP dX1_open_59 ?_
      refine lv_bipush (v := nI 12) hx hb dX1_open_62 (by decide +kernel) ?_
      refine lv_iload_n hx hb dX1_open_64 rfl (lv_at hl 1 rfl) ?_
      refine wz_imul hx hb dX1_open_65 ?_
      refine lv_iload_n hx hb dX1_open_66 rfl (lv_at hl 2 rfl) ?_
      refine wz_iadd hx hb dX1_open_67 ?_
      refine lM_texts hx hb hK hP (i := (12 * j) + i) (by omega) dX1_open_68 ?_
      refine sM_draftLines hx hb hK hP hD hS (i := i) (by omega) dX1_open_69 (fun dl_1 H locs dl_1a dl_1b hP hD hS => ?_)
      refine lv_iinc (v := nI (i + 1)) (lv' := [(2, .int (nI (i + 1))), (0, .ref g0), (1, .int (nI j))]) hx hb dX1_open_70 hl (k := 2) rfl (wz_inc1 i) (by decide) rfl (fun ls hl => ?_)
      refine lv_goto (tgt := 45) hx hb dX1_open_73 (by decide) ?_
      exact ih (i + 1) dl_1 (by omega) (by omega) (fun k hk2 => by
        rcases Nat.lt_or_ge k i with q | q
        · rw [dl_1b k (by omega)]; exact hd k q
        · obtain rfl : k = i := by omega
          exact dl_1a) _ _ hP hD hS ls (lv_sub hl [1, 2, 0] rfl)
set_option maxHeartbeats 4000000 in
set_option maxRecDepth 100000 in
theorem mM_open (l : Launch) (D : va_G) (g0 g1 g2 g3 g4 g5 g6 : Nat) (e1 e2 e3 e4 e5 e6 : ClassId) (N : Nat) (sz : Nat → Int32) (ba : Nat → Int32) (tx : Nat → Int32) (L : Nat) (co : Nat → Int32) (ow : Nat → Int32) (dr : Int32) (fr : Int32) (lt : Nat) (z : Nat) (dl : Nat → Int32)  (Z : Nat → Nat) (hN : N ≤ 12) (hz : ∀ j, j < N → sz j = nI (Z j) ∧ Z j ≤ 12) (v : Int32) : MetI l yX1_open (ws_ yX1_open cX1_open 3 (some .int)) zr1 D (TYM e1 e2 e3 e4 e5 e6) [.ref g0, .int v] (MW g0 g1 g2 g3 g4 g5 g6 e1 e2 e3 e4 e5 e6 N sz ba tx L co ow dr fr lt z dl) (fun r (u : Nat × Int32 × Int32 × Nat × Nat × (Nat → Int32)) => mOpenP N Z tx L dr fr lt z dl v r u.1 u.2.1 u.2.2.1 u.2.2.2.1 u.2.2.2.2.1 u.2.2.2.2.2) (fun u : Nat × Int32 × Int32 × Nat × Nat × (Nat → Int32) => MW g0 g1 g2 g3 g4 g5 g6 e1 e2 e3 e4 e5 e6 N sz ba tx u.1 co ow u.2.1 u.2.2.1 u.2.2.2.1 u.2.2.2.2.1 u.2.2.2.2.2) := by
  intro sz
  refine Met.ofW (cc := cX1_open) (maxL := 3) (ret := some .int) (by decide) rfl ?_
  intro p e s m args below meth c s₁ B hml hv
  obtain ⟨rfl, hsz, hP, hK, hD0⟩ := hv
  have hx := B.exec
  have hb := B.bytes
  have hret := B.returns
  have hts := atoms_spec (ws := ws_ yX1_open cX1_open 3 (some .int)) B.pre
  have hts : ∀ w ∈ lw_all, w.before _ s = true := fun w h => hts w (List.mem_cons_of_mem _ h)
  have hown : s.vm.findClass RX1 = some m.cls := findClass_of_methodNamed B.named
  have hlocks := B.notSynchronized
  subst hsz
  have hD := hD0.self (sz := s.heap.size)
  generalize hAe : va_A (MW g0 g1 g2 g3 g4 g5 g6 e1 e2 e3 e4 e5 e6 N sz ba tx L co ow dr fr lt z dl) s.heap.size = A at hD ⊢
  have hA : ∀ q : Nat, s.heap.size ≤ q → A q := fun q h => by rw [← hAe]; exact Or.inr h
  have hS : va_S A s.heap s.heap [] := va_S.rf
  have hl := lv_entry ([.ref g0, .int v]) (n := 3) (Nat.le_of_ble_eq_true rfl)
  rw [lg_entry_eq]
  generalize (lg_sl ([.ref g0, .int v]) ++ List.replicate (3 - (lg_sl ([.ref g0, .int v])).length) Slot.unset).toArray = ls at hl ⊢
  have hl : lv_has ls 3 [(0, .ref g0), (1, .int v)] := hl
  refine lv_aload_n hx hb dX1_open_0 rfl (lv_at hl 0 rfl) ?_
  refine lv_iload_n hx hb dX1_open_1 rfl (lv_at hl 1 rfl) ?_
  refine cz_i (As := [.int v]) (rest := []) ⟨hx, hb, hml, hown, hts⟩ (mM_version l D g0 g1 g2 g3 g4 g5 g6 e1 e2 e3 e4 e5 e6 N sz ba tx L co ow dr fr lt z dl v (by omega)) (cwV 1 hts (lw_V q184 q186 qs7 q12 q187) rfl rfl rfl (by decide +kernel) ⟨Nat.le_of_ble_eq_true rfl, Nat.le_of_ble_eq_true rfl⟩) hP hK hD hS hA (ci := 1) rfl rfl rfl rfl hl.1 rfl (Nat.le_of_ble_eq_true rfl) dX1_open_2 ⟨Nat.zero_le _, Nat.zero_le _⟩ (fun r u H locs hr hP hD hS => ?_)
  have hr : r = bI (vOk N v) := hr
  subst hr
  refine wz_b_ne (tgt := 10) hx hb dX1_open_5 (by decide) (fun c_5 => ?_) (fun c_5 => ?_)
  · obtain ⟨j, hj, rfl⟩ := vOk_of (by omega) c_5
    have hz_j := (hz j hj).2
    refine lv_aload_n hx hb dX1_open_10 rfl (lv_at hl 0 rfl) ?_
    refine cz_i (As := []) (rest := []) ⟨hx, hb, hml, hown, hts⟩ (mM_discard l D g0 g1 g2 g3 g4 g5 g6 e1 e2 e3 e4 e5 e6 N sz ba tx L co ow dr fr lt z dl) (cwV 0 hts (lw_V q188 q189 q190 q12 q191) rfl rfl rfl (by decide +kernel) ⟨Nat.le_of_ble_eq_true rfl, Nat.le_of_ble_eq_true rfl⟩) hP hK hD hS hA (ci := 1) rfl rfl rfl rfl hl.1 rfl (Nat.le_of_ble_eq_true rfl) dX1_open_11 ⟨Nat.zero_le _, Nat.zero_le _⟩ (fun r u H locs hr hP hD hS => ?_)
    obtain ⟨L1, dr1⟩ := u
    have hL1 := mDisc_L (show mDiscP L dr lt r L1 dr1 from hr)
    have hP : va_P D vwCl (MW g0 g1 g2 g3 g4 g5 g6 e1 e2 e3 e4 e5 e6 N sz ba tx L1 co ow dr1 fr lt z dl) H := hP
    have hD : va_D A (MW g0 g1 g2 g3 g4 g5 g6 e1 e2 e3 e4 e5 e6 N sz ba tx L1 co ow dr1 fr lt z dl) := hD
    refine lv_pop hx hb dX1_open_14 rfl ?_
    refine lv_aload_n hx hb dX1_open_15 rfl (lv_at hl 0 rfl) ?_
    refine lv_iconst (v := nI 1) hx hb dX1_open_16 (by decide +kernel) ?_
    refine uM_drafting hx hb hts hown hK hP hD hS rfl rfl dX1_open_17 (fun H locs hP hD hS => ?_)
    refine lv_aload_n hx hb dX1_open_20 rfl (lv_at hl 0 rfl) ?_
    refine lv_iload_n hx hb dX1_open_21 rfl (lv_at hl 1 rfl) ?_
    refine uM_from hx hb hts hown hK hP hD hS dX1_open_22 (fun H locs hP hD hS => ?_)
    refine lv_aload_n hx hb dX1_open_25 rfl (lv_at hl 0 rfl) ?_
    refine lv_aload_n hx hb dX1_open_26 rfl (lv_at hl 0 rfl) ?_
    refine gM_lines hx hb hts hown hK hP dX1_open_27 ?_
    refine uM_linesThen hx hb hts hown hK hP hD hS dX1_open_30 (fun H locs hP hD hS => ?_)
    refine lv_aload_n hx hb dX1_open_33 rfl (lv_at hl 0 rfl) ?_
    refine lv_aload_n hx hb dX1_open_34 rfl (lv_at hl 0 rfl) ?_
    refine gM_sizes hx hb hts hown hK hP dX1_open_35 ?_
    refine lv_iload_n hx hb dX1_open_38 rfl (lv_at hl 1 rfl) ?_
    refine lM_sizes hx hb hK hP (i := j) (by omega) dX1_open_39 ?_
    refine wz_top (x := sz j) (y := nI (Z j)) ((hz j hj).1) ?_
    refine uM_size hx hb hts hown hK hP hD hS dX1_open_40 (fun H locs hP hD hS => ?_)
    refine lv_iconst (v := nI 0) hx hb dX1_open_43 (by decide +kernel) ?_
    refine lv_istore_n (lv' := [(2, .int (nI 0)), (0, .ref g0), (1, .int (nI j))]) hx hb dX1_open_44 rfl hl (by decide) rfl (fun ls hl => ?_)
    refine lpM_open (dl := dl) hx hb hml hown hts hA hK ⟨Nat.le_of_ble_eq_true rfl, Nat.le_of_ble_eq_true rfl⟩ j (by omega) hz_j (fun dl1 hd H locs hP hD hS ls hl => ?_) (Z j + 1) 0 dl (Nat.zero_le _) (by omega) (fun k hk => absurd hk (Nat.not_lt_zero _)) _ _ hP hD hS ls (lv_sub hl [1, 2, 0] rfl)
    refine lv_aload_n hx hb dX1_open_76 rfl (lv_at hl 0 rfl) ?_
    refine gM_size hx hb hts hown hK hP dX1_open_77 ?_
    exact W.iret (v := nI (Z j)) hx hb hret (fun t ht hW => ⟨⟨nI (Z j), (L1, nI 1, nI j, L1, Z j, dl1), rfl, Or.inr ⟨j, hj, rfl, hL1, rfl, rfl, rfl, rfl, hd, rfl⟩, ⟨by rw [ht]; exact hP, va_K.moved hW.alike hK, hD⟩⟩, hS.F ht⟩) hS.2.2 dX1_open_80
  · refine lv_iconst (v := -1) hx hb dX1_open_8 (by decide +kernel) ?_
    exact W.iret (v := -1) hx hb hret (fun t ht hW => ⟨⟨-1, (L, dr, fr, lt, z, dl), rfl, Or.inl ⟨c_5, rfl, rfl, rfl, rfl, rfl, rfl, rfl⟩, ⟨by rw [ht]; exact hP, va_K.moved hW.alike hK, hD⟩⟩, hS.F ht⟩) hS.2.2 dX1_open_9
set_option maxHeartbeats 4000000 in
set_option maxRecDepth 100000 in
theorem lpM_put {p : Program} {l : Launch} {e : Env} {R : Room} {s : State} {m : MethodId} {args : Array Value} {below : List Frame} {meth : Method} {c : Code} {Q : State → Prop} {D : va_G} {A : Nat → Prop} {g0 g1 g2 g3 g4 g5 g6 : Nat} {e1 e2 e3 e4 e5 e6 : ClassId} {N : Nat} {sz : Nat → Int32} {ba : Nat → Int32} {tx : Nat → Int32} {L : Nat} {co : Nat → Int32} {ow : Nat → Int32} {dr : Int32} {fr : Int32} {lt : Nat} {z : Nat} {dl : Nat → Int32} (hx : p.tables.exec = Jvm.exec) (hb : c.code = cX1_put) (hml : c.maxLocals = 4) (hown : s.vm.findClass RX1 = some m.cls) (hts : ∀ w ∈ lw_all, w.before args s = true) (hA : ∀ q : Nat, s.heap.size ≤ q → A q) (hK : va_K D vwCl (TYM e1 e2 e3 e4 e5 e6) s) (hR : 0 ≤ R.frames ∧ 0 ≤ R.locals) (a : Nat) (x : Int32) (hz12 : z < 12) (hk : ∀ dl1 : Nat → Int32, shP a z dl dl1 → ∀ (H : Heap) (locs : List Loc), va_P D vwCl (MW g0 g1 g2 g3 g4 g5 g6 e1 e2 e3 e4 e5 e6 N sz ba tx L co ow dr fr lt z dl1) H → va_D A (MW g0 g1 g2 g3 g4 g5 g6 e1 e2 e3 e4 e5 e6 N sz ba tx L co ow dr fr lt z dl1) → va_S A s.heap H locs → ∀ ls : Array Slot, lv_has ls 4 [(0, .ref g0), (1, .int (nI a)), (2, .int x)] → W p l e R s m args below meth c H locs 0 0 Q (F0 m 82 ls [])) : ∀ (n k : Nat) (dl1 : Nat → Int32), a ≤ k → k ≤ z → k + 1 ≤ a + n → shP k z dl dl1 → ∀ (H : Heap) (locs : List Loc), va_P D vwCl (MW g0 g1 g2 g3 g4 g5 g6 e1 e2 e3 e4 e5 e6 N sz ba tx L co ow dr fr lt z dl1) H → va_D A (MW g0 g1 g2 g3 g4 g5 g6 e1 e2 e3 e4 e5 e6 N sz ba tx L co ow dr fr lt z dl1) → va_S A s.heap H locs → ∀ ls : Array Slot, lv_has ls 4 [(0, .ref g0), (1, .int (nI a)), (2, .int x), (3, .int (nI k))] → W p l e R s m args below meth c H locs 0 0 Q (F0 m 57 ls []) := by
  intro n
  induction n with
  | zero =>
    intro k dl1 h0 h1 h2
    exact absurd h2 (by omega)
  | succ n ih =>
    intro k dl1 ha hkz hn hs H locs hP hD hS ls hl
    refine lv_iload_n hx hb dX1_put_57 rfl (lv_at hl 3 rfl) ?_
    refine lv_iload_n hx hb dX1_put_58 rfl (lv_at hl 1 rfl) ?_
    refine wz_le (tgt := 82) hx hb (by omega) (by omega) dX1_put_59 (by decide) (fun c_59 => ?_) (fun c_59 => ?_)
    · obtain rfl : a = k := by omega
      exact hk dl1 hs _ _ hP hD hS ls (lv_sub hl [0, 1, 2] rfl)
    · obtain ⟨k2, rfl⟩ : ∃ k2, k = k2 + 1 := ⟨k - 1, by omega⟩
      refine lv_aload_n hx hb dX1_put_62 rfl (lv_at hl 0 rfl) ?_
      refine gM_draftLines hx hb hts hown hK hP dX1_put_63 ?_
      refine lv_iload_n hx hb dX1_put_66 rfl (lv_at hl 3 rfl) ?_
      refine lv_aload_n hx hb dX1_put_67 rfl (lv_at hl 0 rfl) ?_
      refine gM_draftLines hx hb hts hown hK hP dX1_put_68 ?_
      refine lv_iload_n hx hb dX1_put_71 rfl (lv_at hl 3 rfl) ?_
      refine lv_iconst (v := nI 1) hx hb dX1_put_72 (by decide +kernel) ?_
      refine wz_isub hx hb k2 (by omega) dX1_put_73 ?_
      refine lM_draftLines hx hb hK hP (i := k2) (by omega) dX1_put_74 ?_
      refine sM_draftLines hx hb hK hP hD hS (i := k2 + 1) (by omega) dX1_put_75 (fun dl_1 H locs dl_1a dl_1b hP hD hS => ?_)
      refine lv_iinc (v := nI k2) (lv' := [(3, .int (nI k2)), (0, .ref g0), (1, .int (nI a)), (2, .int x)]) hx hb dX1_put_76 hl (k := 3) rfl (wz_dec1 k2) (by decide) rfl (fun ls hl => ?_)
      refine lv_goto (tgt := 57) hx hb dX1_put_79 (by decide) ?_
      exact ih k2 dl_1 (by omega) (by omega) (by omega) (shP_step hs dl_1a dl_1b) _ _ hP hD hS ls (lv_sub hl [1, 2, 3, 0] rfl)
set_option maxHeartbeats 4000000 in
set_option maxRecDepth 100000 in
theorem mM_put (l : Launch) (D : va_G) (g0 g1 g2 g3 g4 g5 g6 : Nat) (e1 e2 e3 e4 e5 e6 : ClassId) (N : Nat) (sz : Nat → Int32) (ba : Nat → Int32) (tx : Nat → Int32) (L : Nat) (co : Nat → Int32) (ow : Nat → Int32) (dr : Int32) (fr : Int32) (lt : Nat) (z : Nat) (dl : Nat → Int32)  (hN : N ≤ 12) (hL : L ≤ 30) (hz12 : z ≤ 12) (i x : Int32) : MetI l yX1_put (ws_ yX1_put cX1_put 4 (some .int)) zr0 D (TYM e1 e2 e3 e4 e5 e6) [.ref g0, .int i, .int x] (MW g0 g1 g2 g3 g4 g5 g6 e1 e2 e3 e4 e5 e6 N sz ba tx L co ow dr fr lt z dl) (fun r (u : Nat × (Nat → Int32) × (Nat → Int32) × Nat × (Nat → Int32)) => mPutP N L co ow dr z dl i x r u.1 u.2.1 u.2.2.1 u.2.2.2.1 u.2.2.2.2) (fun u : Nat × (Nat → Int32) × (Nat → Int32) × Nat × (Nat → Int32) => MW g0 g1 g2 g3 g4 g5 g6 e1 e2 e3 e4 e5 e6 N sz ba tx u.1 u.2.1 u.2.2.1 dr fr lt u.2.2.2.1 u.2.2.2.2) := by
  intro sz
  refine Met.ofW (cc := cX1_put) (maxL := 4) (ret := some .int) (by decide) rfl ?_
  intro p e s m args below meth c s₁ B hml hv
  obtain ⟨rfl, hsz, hP, hK, hD0⟩ := hv
  have hx := B.exec
  have hb := B.bytes
  have hret := B.returns
  have hts := atoms_spec (ws := ws_ yX1_put cX1_put 4 (some .int)) B.pre
  have hts : ∀ w ∈ lw_all, w.before _ s = true := fun w h => hts w (List.mem_cons_of_mem _ h)
  have hown : s.vm.findClass RX1 = some m.cls := findClass_of_methodNamed B.named
  have hlocks := B.notSynchronized
  subst hsz
  have hD := hD0.self (sz := s.heap.size)
  generalize hAe : va_A (MW g0 g1 g2 g3 g4 g5 g6 e1 e2 e3 e4 e5 e6 N sz ba tx L co ow dr fr lt z dl) s.heap.size = A at hD ⊢
  have hA : ∀ q : Nat, s.heap.size ≤ q → A q := fun q h => by rw [← hAe]; exact Or.inr h
  have hS : va_S A s.heap s.heap [] := va_S.rf
  have hl := lv_entry ([.ref g0, .int i, .int x]) (n := 4) (Nat.le_of_ble_eq_true rfl)
  rw [lg_entry_eq]
  generalize (lg_sl ([.ref g0, .int i, .int x]) ++ List.replicate (4 - (lg_sl ([.ref g0, .int i, .int x])).length) Slot.unset).toArray = ls at hl ⊢
  have hl : lv_has ls 4 [(0, .ref g0), (1, .int i), (2, .int x)] := hl
  refine lv_aload_n hx hb dX1_put_0 rfl (lv_at hl 0 rfl) ?_
  refine gM_drafting hx hb hts hown hK hP dX1_put_1 ?_
  refine lv_if_eq (tgt := 29) hx hb dX1_put_4 (by decide) (fun c_4 => ?_) (fun c_4 => ?_)
  · refine lv_iconst (v := -1) hx hb dX1_put_29 (by decide +kernel) ?_
    exact W.iret (v := -1) hx hb hret (fun t ht hW => ⟨⟨-1, (L, co, ow, z, dl), rfl, Or.inl ⟨Or.inl c_4, rfl, rfl, rfl, rfl, rfl, rfl⟩, ⟨by rw [ht]; exact hP, va_K.moved hW.alike hK, hD⟩⟩, hS.F ht⟩) hS.2.2 dX1_put_30
  · refine lv_iload_n hx hb dX1_put_7 rfl (lv_at hl 2 rfl) ?_
    refine lv_if_lt (tgt := 29) hx hb dX1_put_8 (by decide) (fun c_8 => ?_) (fun c_8 => ?_)
    · refine lv_iconst (v := -1) hx hb dX1_put_29 (by decide +kernel) ?_
      exact W.iret (v := -1) hx hb hret (fun t ht hW => ⟨⟨-1, (L, co, ow, z, dl), rfl, Or.inl ⟨Or.inr (Or.inl c_8), rfl, rfl, rfl, rfl, rfl, rfl⟩, ⟨by rw [ht]; exact hP, va_K.moved hW.alike hK, hD⟩⟩, hS.F ht⟩) hS.2.2 dX1_put_30
    · refine lv_iload_n hx hb dX1_put_11 rfl (lv_at hl 2 rfl) ?_
      refine lv_bipush (v := nI 99) hx hb dX1_put_12 (by decide +kernel) ?_
      refine lv_icmp_gt (tgt := 29) hx hb dX1_put_14 (by decide) (fun c_14 => ?_) (fun c_14 => ?_)
      · refine lv_iconst (v := -1) hx hb dX1_put_29 (by decide +kernel) ?_
        exact W.iret (v := -1) hx hb hret (fun t ht hW => ⟨⟨-1, (L, co, ow, z, dl), rfl, Or.inl ⟨Or.inr (Or.inr (Or.inl c_14)), rfl, rfl, rfl, rfl, rfl, rfl⟩, ⟨by rw [ht]; exact hP, va_K.moved hW.alike hK, hD⟩⟩, hS.F ht⟩) hS.2.2 dX1_put_30
      · refine lv_iload_n hx hb dX1_put_17 rfl (lv_at hl 1 rfl) ?_
        refine lv_if_lt (tgt := 29) hx hb dX1_put_18 (by decide) (fun c_18 => ?_) (fun c_18 => ?_)
        · refine lv_iconst (v := -1) hx hb dX1_put_29 (by decide +kernel) ?_
          exact W.iret (v := -1) hx hb hret (fun t ht hW => ⟨⟨-1, (L, co, ow, z, dl), rfl, Or.inl ⟨Or.inr (Or.inr (Or.inr (Or.inl c_18))), rfl, rfl, rfl, rfl, rfl, rfl⟩, ⟨by rw [ht]; exact hP, va_K.moved hW.alike hK, hD⟩⟩, hS.F ht⟩) hS.2.2 dX1_put_30
        · obtain ⟨ii, hii, rfl⟩ := nI_of c_18
          refine lv_iload_n hx hb dX1_put_21 rfl (lv_at hl 1 rfl) ?_
          refine lv_aload_n hx hb dX1_put_22 rfl (lv_at hl 0 rfl) ?_
          refine gM_size hx hb hts hown hK hP dX1_put_23 ?_
          refine wz_le (tgt := 31) hx hb (by omega) (by omega) dX1_put_26 (by decide) (fun c_26 => ?_) (fun c_26 => ?_)
          · refine lv_aload_n hx hb dX1_put_31 rfl (lv_at hl 0 rfl) ?_
            refine gM_size hx hb hts hown hK hP dX1_put_32 ?_
            refine lv_bipush (v := nI 12) hx hb dX1_put_35 (by decide +kernel) ?_
            refine wz_ge (tgt := 49) hx hb (by omega) (by omega) dX1_put_37 (by decide) (fun c_37 => ?_) (fun c_37 => ?_)
            · refine lv_bipush (v := -2) hx hb dX1_put_49 (by decide +kernel) ?_
              exact W.iret (v := -2) hx hb hret (fun t ht hW => ⟨⟨-2, (L, co, ow, z, dl), rfl, Or.inr (Or.inl ⟨not_putBad c_4 c_8 c_14 (nI_pos hii) (nI_nlt c_26 (by omega)), Or.inl c_37, rfl, rfl, rfl, rfl, rfl, rfl⟩), ⟨by rw [ht]; exact hP, va_K.moved hW.alike hK, hD⟩⟩, hS.F ht⟩) hS.2.2 dX1_put_51
            · refine lv_aload_n hx hb dX1_put_40 rfl (lv_at hl 0 rfl) ?_
              refine gM_lines hx hb hts hown hK hP dX1_put_41 ?_
              refine lv_bipush (v := nI 30) hx hb dX1_put_44 (by decide +kernel) ?_
              refine wz_lt (tgt := 52) hx hb (by omega) (by omega) dX1_put_46 (by decide) (fun c_46 => ?_) (fun c_46 => ?_)
              · refine lv_aload_n hx hb dX1_put_52 rfl (lv_at hl 0 rfl) ?_
                refine gM_size hx hb hts hown hK hP dX1_put_53 ?_
                refine lv_istore_n (lv' := [(3, .int (nI z)), (0, .ref g0), (1, .int (nI ii)), (2, .int x)]) hx hb dX1_put_56 rfl hl (by decide) rfl (fun ls hl => ?_)
                refine lpM_put hx hb hml hown hts hA hK ⟨Nat.le_of_ble_eq_true rfl, Nat.le_of_ble_eq_true rfl⟩ ii x c_37 (fun dl1 hs H locs hP hD hS ls hl => ?_) (z + 1 - ii) z dl c_26 (Nat.le_refl z) (by omega) (shP_0 _ _) _ _ hP hD hS ls (lv_sub hl [1, 2, 3, 0] rfl)
                refine lv_aload_n hx hb dX1_put_82 rfl (lv_at hl 0 rfl) ?_
                refine gM_draftLines hx hb hts hown hK hP dX1_put_83 ?_
                refine lv_iload_n hx hb dX1_put_86 rfl (lv_at hl 1 rfl) ?_
                refine lv_aload_n hx hb dX1_put_87 rfl (lv_at hl 0 rfl) ?_
                refine gM_lines hx hb hts hown hK hP dX1_put_88 ?_
                refine sM_draftLines hx hb hK hP hD hS (i := ii) (by omega) dX1_put_91 (fun dl_1 H locs dl_1a dl_1b hP hD hS => ?_)
                refine lv_aload_n hx hb dX1_put_92 rfl (lv_at hl 0 rfl) ?_
                refine gM_contents hx hb hts hown hK hP dX1_put_93 ?_
                refine lv_aload_n hx hb dX1_put_96 rfl (lv_at hl 0 rfl) ?_
                refine gM_lines hx hb hts hown hK hP dX1_put_97 ?_
                refine lv_iload_n hx hb dX1_put_100 rfl (lv_at hl 2 rfl) ?_
                refine sM_contents hx hb hK hP hD hS (i := L) (by omega) dX1_put_101 (fun co_2 H locs co_2a co_2b hP hD hS => ?_)
                refine lv_aload_n hx hb dX1_put_102 rfl (lv_at hl 0 rfl) ?_
                refine gM_owners hx hb hts hown hK hP dX1_put_103 ?_
                refine lv_aload_n hx hb dX1_put_106 rfl (lv_at hl 0 rfl) ?_
                refine gM_lines hx hb hts hown hK hP dX1_put_107 ?_
                refine lv_aload_n hx hb dX1_put_110 rfl (lv_at hl 0 rfl) ?_
                refine gM_count hx hb hts hown hK hP dX1_put_111 ?_
                refine sM_owners hx hb hK hP hD hS (i := L) (by omega) dX1_put_114 (fun ow_3 H locs ow_3a ow_3b hP hD hS => ?_)
                refine lv_aload_n hx hb dX1_put_115 rfl (lv_at hl 0 rfl) ?_
                refine lv_dup hx hb dX1_put_116 rfl ?_
                refine gM_lines hx hb hts hown hK hP dX1_put_117 ?_
                refine lv_iconst (v := nI 1) hx hb dX1_put_120 (by decide +kernel) ?_
                refine wz_iadd hx hb dX1_put_121 ?_
                refine uM_lines hx hb hts hown hK hP hD hS dX1_put_122 (fun H locs hP hD hS => ?_)
                refine lv_aload_n hx hb dX1_put_125 rfl (lv_at hl 0 rfl) ?_
                refine lv_dup hx hb dX1_put_126 rfl ?_
                refine gM_size hx hb hts hown hK hP dX1_put_127 ?_
                refine lv_iconst (v := nI 1) hx hb dX1_put_130 (by decide +kernel) ?_
                refine wz_iadd hx hb dX1_put_131 ?_
                refine uM_size hx hb hts hown hK hP hD hS dX1_put_132 (fun H locs hP hD hS => ?_)
                refine lv_aload_n hx hb dX1_put_135 rfl (lv_at hl 0 rfl) ?_
                refine gM_size hx hb hts hown hK hP dX1_put_136 ?_
                exact W.iret (v := nI (z + 1)) hx hb hret (fun t ht hW => ⟨⟨nI (z + 1), (L + 1, co_2, ow_3, z + 1, dl_1), rfl, Or.inr (Or.inr ⟨not_putBad c_4 c_8 c_14 (nI_pos hii) (nI_nlt c_26 (by omega)), c_37, c_46, rfl, rfl, rfl, ⟨ii, c_26, rfl, shP_ins hs dl_1a dl_1b⟩, ⟨co_2a, co_2b⟩, ⟨ow_3a, ow_3b⟩⟩), ⟨by rw [ht]; exact hP, va_K.moved hW.alike hK, hD⟩⟩, hS.F ht⟩) hS.2.2 dX1_put_139
              · refine lv_bipush (v := -2) hx hb dX1_put_49 (by decide +kernel) ?_
                exact W.iret (v := -2) hx hb hret (fun t ht hW => ⟨⟨-2, (L, co, ow, z, dl), rfl, Or.inr (Or.inl ⟨not_putBad c_4 c_8 c_14 (nI_pos hii) (nI_nlt c_26 (by omega)), Or.inr c_46, rfl, rfl, rfl, rfl, rfl, rfl⟩), ⟨by rw [ht]; exact hP, va_K.moved hW.alike hK, hD⟩⟩, hS.F ht⟩) hS.2.2 dX1_put_51
          · refine lv_iconst (v := -1) hx hb dX1_put_29 (by decide +kernel) ?_
            exact W.iret (v := -1) hx hb hret (fun t ht hW => ⟨⟨-1, (L, co, ow, z, dl), rfl, Or.inl ⟨Or.inr (Or.inr (Or.inr (Or.inr (nI_lt c_26 (by omega))))), rfl, rfl, rfl, rfl, rfl, rfl⟩, ⟨by rw [ht]; exact hP, va_K.moved hW.alike hK, hD⟩⟩, hS.F ht⟩) hS.2.2 dX1_put_30
set_option maxHeartbeats 4000000 in
set_option maxRecDepth 100000 in
theorem lpM_cut {p : Program} {l : Launch} {e : Env} {R : Room} {s : State} {m : MethodId} {args : Array Value} {below : List Frame} {meth : Method} {c : Code} {Q : State → Prop} {D : va_G} {A : Nat → Prop} {g0 g1 g2 g3 g4 g5 g6 : Nat} {e1 e2 e3 e4 e5 e6 : ClassId} {N : Nat} {sz : Nat → Int32} {ba : Nat → Int32} {tx : Nat → Int32} {L : Nat} {co : Nat → Int32} {ow : Nat → Int32} {dr : Int32} {fr : Int32} {lt : Nat} {z : Nat} {dl : Nat → Int32} (hx : p.tables.exec = Jvm.exec) (hb : c.code = cX1_cut) (hml : c.maxLocals = 4) (hown : s.vm.findClass RX1 = some m.cls) (hts : ∀ w ∈ lw_all, w.before args s = true) (hA : ∀ q : Nat, s.heap.size ≤ q → A q) (hK : va_K D vwCl (TYM e1 e2 e3 e4 e5 e6) s) (hR : 0 ≤ R.frames ∧ 0 ≤ R.locals) (a : Nat) (x : Int32) (hz12 : z < 12) (hk : ∀ dl1 : Nat → Int32, ctP a z dl dl1 → ∀ (H : Heap) (locs : List Loc), va_P D vwCl (MW g0 g1 g2 g3 g4 g5 g6 e1 e2 e3 e4 e5 e6 N sz ba tx L co ow dr fr lt z dl1) H → va_D A (MW g0 g1 g2 g3 g4 g5 g6 e1 e2 e3 e4 e5 e6 N sz ba tx L co ow dr fr lt z dl1) → va_S A s.heap H locs → ∀ ls : Array Slot, lv_has ls 4 [(2, .int x)] → W p l e R s m args below meth c H locs 0 0 Q (F0 m 73 ls [])) : ∀ (n k : Nat) (dl1 : Nat → Int32), a ≤ k → k ≤ z → z + 1 ≤ k + n → ctP a k dl dl1 → ∀ (H : Heap) (locs : List Loc), va_P D vwCl (MW g0 g1 g2 g3 g4 g5 g6 e1 e2 e3 e4 e5 e6 N sz ba tx L co ow dr fr lt z dl1) H → va_D A (MW g0 g1 g2 g3 g4 g5 g6 e1 e2 e3 e4 e5 e6 N sz ba tx L co ow dr fr lt z dl1) → va_S A s.heap H locs → ∀ ls : Array Slot, lv_has ls 4 [(0, .ref g0), (2, .int x), (3, .int (nI k))] → W p l e R s m args below meth c H locs 0 0 Q (F0 m 45 ls []) := by
  intro n
  induction n with
  | zero =>
    intro k dl1 h0 h1 h2
    exact absurd h2 (by omega)
  | succ n ih =>
    intro k dl1 ha hkz hn hs H locs hP hD hS ls hl
    refine lv_iload_n hx hb dX1_cut_45 rfl (lv_at hl 2 rfl) ?_
    refine lv_aload_n hx hb dX1_cut_46 rfl (lv_at hl 0 rfl) ?_
    refine gM_size hx hb hts hown hK hP dX1_cut_47 ?_
    refine wz_ge (tgt := 73) hx hb (by omega) (by omega) dX1_cut_50 (by decide) (fun c_50 => ?_) (fun c_50 => ?_)
    · rw [show k = z from by omega] at hs
      exact hk dl1 hs _ _ hP hD hS ls (lv_sub hl [1] rfl)
    · refine lv_aload_n hx hb dX1_cut_53 rfl (lv_at hl 0 rfl) ?_
      refine gM_draftLines hx hb hts hown hK hP dX1_cut_54 ?_
      refine lv_iload_n hx hb dX1_cut_57 rfl (lv_at hl 2 rfl) ?_
      refine lv_aload_n hx hb dX1_cut_58 rfl (lv_at hl 0 rfl) ?_
      refine gM_draftLines hx hb hts hown hK hP dX1_cut_59 ?_
      refine lv_iload_n hx hb dX1_cut_62 rfl (lv_at hl 2 rfl) ?_
      refine lv_iconst (v := nI 1) hx hb dX1_cut_63 (by decide +kernel) ?_
      refine wz_iadd hx hb dX1_cut_64 ?_
      refine lM_draftLines hx hb hK hP (i := k + 1) (by omega) dX1_cut_65 ?_
      refine sM_draftLines hx hb hK hP hD hS (i := k) (by omega) dX1_cut_66 (fun dl_1 H locs dl_1a dl_1b hP hD hS => ?_)
      refine lv_iinc (v := nI (k + 1)) (lv' := [(3, .int (nI (k + 1))), (0, .ref g0), (2, .int x)]) hx hb dX1_cut_67 hl (k := 2) rfl (wz_inc1 k) (by decide) rfl (fun ls hl => ?_)
      refine lv_goto (tgt := 45) hx hb dX1_cut_70 (by decide) ?_
      exact ih (k + 1) dl_1 (by omega) (by omega) (by omega) (ctP_step ha hs dl_1a dl_1b) _ _ hP hD hS ls (lv_sub hl [1, 2, 0] rfl)
set_option maxHeartbeats 4000000 in
set_option maxRecDepth 100000 in
theorem mM_cut (l : Launch) (D : va_G) (g0 g1 g2 g3 g4 g5 g6 : Nat) (e1 e2 e3 e4 e5 e6 : ClassId) (N : Nat) (sz : Nat → Int32) (ba : Nat → Int32) (tx : Nat → Int32) (L : Nat) (co : Nat → Int32) (ow : Nat → Int32) (dr : Int32) (fr : Int32) (lt : Nat) (z : Nat) (dl : Nat → Int32)  (hz12 : z ≤ 12) (hdl : ¬ dr = 0 → ∀ i, i < z → ∃ n, n < 30 ∧ dl i = nI n) (i : Int32) : MetI l yX1_cut (ws_ yX1_cut cX1_cut 4 (some .int)) zr0 D (TYM e1 e2 e3 e4 e5 e6) [.ref g0, .int i] (MW g0 g1 g2 g3 g4 g5 g6 e1 e2 e3 e4 e5 e6 N sz ba tx L co ow dr fr lt z dl) (fun r (u : Nat × (Nat → Int32)) => mCutP co dr z dl i r u.1 u.2) (fun u : Nat × (Nat → Int32) => MW g0 g1 g2 g3 g4 g5 g6 e1 e2 e3 e4 e5 e6 N sz ba tx L co ow dr fr lt u.1 u.2) := by
  intro sz
  refine Met.ofW (cc := cX1_cut) (maxL := 4) (ret := some .int) (by decide) rfl ?_
  intro p e s m args below meth c s₁ B hml hv
  obtain ⟨rfl, hsz, hP, hK, hD0⟩ := hv
  have hx := B.exec
  have hb := B.bytes
  have hret := B.returns
  have hts := atoms_spec (ws := ws_ yX1_cut cX1_cut 4 (some .int)) B.pre
  have hts : ∀ w ∈ lw_all, w.before _ s = true := fun w h => hts w (List.mem_cons_of_mem _ h)
  have hown : s.vm.findClass RX1 = some m.cls := findClass_of_methodNamed B.named
  have hlocks := B.notSynchronized
  subst hsz
  have hD := hD0.self (sz := s.heap.size)
  generalize hAe : va_A (MW g0 g1 g2 g3 g4 g5 g6 e1 e2 e3 e4 e5 e6 N sz ba tx L co ow dr fr lt z dl) s.heap.size = A at hD ⊢
  have hA : ∀ q : Nat, s.heap.size ≤ q → A q := fun q h => by rw [← hAe]; exact Or.inr h
  have hS : va_S A s.heap s.heap [] := va_S.rf
  have hl := lv_entry ([.ref g0, .int i]) (n := 4) (Nat.le_of_ble_eq_true rfl)
  rw [lg_entry_eq]
  generalize (lg_sl ([.ref g0, .int i]) ++ List.replicate (4 - (lg_sl ([.ref g0, .int i])).length) Slot.unset).toArray = ls at hl ⊢
  have hl : lv_has ls 4 [(0, .ref g0), (1, .int i)] := hl
  refine lv_aload_n hx hb dX1_cut_0 rfl (lv_at hl 0 rfl) ?_
  refine gM_drafting hx hb hts hown hK hP dX1_cut_1 ?_
  refine lv_if_eq (tgt := 19) hx hb dX1_cut_4 (by decide) (fun c_4 => ?_) (fun c_4 => ?_)
  · refine lv_iconst (v := -1) hx hb dX1_cut_19 (by decide +kernel) ?_
    exact W.iret (v := -1) hx hb hret (fun t ht hW => ⟨⟨-1, (z, dl), rfl, Or.inl ⟨Or.inl c_4, rfl, rfl, rfl⟩, ⟨by rw [ht]; exact hP, va_K.moved hW.alike hK, hD⟩⟩, hS.F ht⟩) hS.2.2 dX1_cut_20
  · refine lv_iload_n hx hb dX1_cut_7 rfl (lv_at hl 1 rfl) ?_
    refine lv_if_lt (tgt := 19) hx hb dX1_cut_8 (by decide) (fun c_8 => ?_) (fun c_8 => ?_)
    · refine lv_iconst (v := -1) hx hb dX1_cut_19 (by decide +kernel) ?_
      exact W.iret (v := -1) hx hb hret (fun t ht hW => ⟨⟨-1, (z, dl), rfl, Or.inl ⟨Or.inr (Or.inl c_8), rfl, rfl, rfl⟩, ⟨by rw [ht]; exact hP, va_K.moved hW.alike hK, hD⟩⟩, hS.F ht⟩) hS.2.2 dX1_cut_20
    · obtain ⟨ii, hii, rfl⟩ := nI_of c_8
      refine lv_iload_n hx hb dX1_cut_11 rfl (lv_at hl 1 rfl) ?_
      refine lv_aload_n hx hb dX1_cut_12 rfl (lv_at hl 0 rfl) ?_
      refine gM_size hx hb hts hown hK hP dX1_cut_13 ?_
      refine wz_lt (tgt := 21) hx hb (by omega) (by omega) dX1_cut_16 (by decide) (fun c_16 => ?_) (fun c_16 => ?_)
      · refine lv_aload_n hx hb dX1_cut_21 rfl (lv_at hl 0 rfl) ?_
        refine gM_contents hx hb hts hown hK hP dX1_cut_22 ?_
        refine lv_aload_n hx hb dX1_cut_25 rfl (lv_at hl 0 rfl) ?_
        refine gM_draftLines hx hb hts hown hK hP dX1_cut_26 ?_
        refine lv_iload_n hx hb dX1_cut_29 rfl (lv_at hl 1 rfl) ?_
        refine lM_draftLines hx hb hK hP (i := ii) (by omega) dX1_cut_30 ?_
        obtain ⟨nn, hnn, hen⟩ := hdl c_4 ii c_16
        refine wz_top (x := dl ii) (y := nI nn) (hen) ?_
        refine lM_contents hx hb hK hP (i := nn) (by omega) dX1_cut_31 ?_
        refine lv_istore_n (lv' := [(2, .int (co nn)), (0, .ref g0), (1, .int (nI ii))]) hx hb dX1_cut_32 rfl hl (by decide) rfl (fun ls hl => ?_)
        refine lv_aload_n hx hb dX1_cut_33 rfl (lv_at hl 1 rfl) ?_
        refine lv_dup hx hb dX1_cut_34 rfl ?_
        refine gM_size hx hb hts hown hK hP dX1_cut_35 ?_
        refine lv_iconst (v := nI 1) hx hb dX1_cut_38 (by decide +kernel) ?_
        refine wz_isub hx hb (z - 1) (by omega) dX1_cut_39 ?_
        refine uM_size hx hb hts hown hK hP hD hS dX1_cut_40 (fun H locs hP hD hS => ?_)
        refine lv_iload_n hx hb dX1_cut_43 rfl (lv_at hl 2 rfl) ?_
        refine lv_istore_n (lv' := [(3, .int (nI ii)), (2, .int (co nn)), (0, .ref g0), (1, .int (nI ii))]) hx hb dX1_cut_44 rfl hl (by decide) rfl (fun ls hl => ?_)
        refine lpM_cut hx hb hml hown hts hA hK ⟨Nat.le_of_ble_eq_true rfl, Nat.le_of_ble_eq_true rfl⟩ ii (co nn) (by omega) (fun dl1 hs H locs hP hD hS ls hl => ?_) (z + 1) ii dl (Nat.le_refl ii) (by omega) (by omega) (ctP_0 _ _) _ _ hP hD hS ls (lv_sub hl [2, 1, 0] rfl)
        refine lv_iload_n hx hb dX1_cut_73 rfl (lv_at hl 0 rfl) ?_
        exact W.iret (v := co nn) hx hb hret (fun t ht hW => ⟨⟨co nn, (z - 1, dl1), rfl, Or.inr ⟨not_cutBad c_4 (nI_pos hii) (nI_ge c_16 (by omega)), ii, c_16, rfl, by rw [hen, nI_clamp (by omega)], rfl, hs.1, fun j h1 h2 => hs.2.1 j h1 (by omega)⟩, ⟨by rw [ht]; exact hP, va_K.moved hW.alike hK, hD⟩⟩, hS.F ht⟩) hS.2.2 dX1_cut_74
      · refine lv_iconst (v := -1) hx hb dX1_cut_19 (by decide +kernel) ?_
        exact W.iret (v := -1) hx hb hret (fun t ht hW => ⟨⟨-1, (z, dl), rfl, Or.inl ⟨Or.inr (Or.inr (nI_le c_16 hii)), rfl, rfl, rfl⟩, ⟨by rw [ht]; exact hP, va_K.moved hW.alike hK, hD⟩⟩, hS.F ht⟩) hS.2.2 dX1_cut_20
set_option maxHeartbeats 4000000 in
set_option maxRecDepth 100000 in
theorem lpM_close {p : Program} {l : Launch} {e : Env} {R : Room} {s : State} {m : MethodId} {args : Array Value} {below : List Frame} {meth : Method} {c : Code} {Q : State → Prop} {D : va_G} {A : Nat → Prop} {g0 g1 g2 g3 g4 g5 g6 : Nat} {e1 e2 e3 e4 e5 e6 : ClassId} {N : Nat} {sz : Nat → Int32} {ba : Nat → Int32} {tx : Nat → Int32} {L : Nat} {co : Nat → Int32} {ow : Nat → Int32} {dr : Int32} {fr : Int32} {lt : Nat} {z : Nat} {dl : Nat → Int32} (hx : p.tables.exec = Jvm.exec) (hb : c.code = cX1_close) (hml : c.maxLocals = 2) (hown : s.vm.findClass RX1 = some m.cls) (hts : ∀ w ∈ lw_all, w.before args s = true) (hA : ∀ q : Nat, s.heap.size ≤ q → A q) (hK : va_K D vwCl (TYM e1 e2 e3 e4 e5 e6) s) (hR : 0 ≤ R.frames ∧ 0 ≤ R.locals) (hN : N < 12) (hz12 : z ≤ 12) (hk : ∀ tx1 : Nat → Int32, (∀ k, k < 12 * N → tx1 k = tx k) → (∀ k, k < z → tx1 (12 * N + k) = dl k) → ∀ (H : Heap) (locs : List Loc), va_P D vwCl (MW g0 g1 g2 g3 g4 g5 g6 e1 e2 e3 e4 e5 e6 N sz ba tx1 L co ow dr fr lt z dl) H → va_D A (MW g0 g1 g2 g3 g4 g5 g6 e1 e2 e3 e4 e5 e6 N sz ba tx1 L co ow dr fr lt z dl) → va_S A s.heap H locs → ∀ ls : Array Slot, lv_has ls 2 [(0, .ref g0)] → W p l e R s m args below meth c H locs 0 0 Q (F0 m 83 ls [])) : ∀ (n i : Nat) (tx1 : Nat → Int32), i ≤ z → z + 1 ≤ i + n → (∀ k, k < 12 * N → tx1 k = tx k) → (∀ k, k < i → tx1 (12 * N + k) = dl k) → ∀ (H : Heap) (locs : List Loc), va_P D vwCl (MW g0 g1 g2 g3 g4 g5 g6 e1 e2 e3 e4 e5 e6 N sz ba tx1 L co ow dr fr lt z dl) H → va_D A (MW g0 g1 g2 g3 g4 g5 g6 e1 e2 e3 e4 e5 e6 N sz ba tx1 L co ow dr fr lt z dl) → va_S A s.heap H locs → ∀ ls : Array Slot, lv_has ls 2 [(0, .ref g0), (1, .int (nI i))] → W p l e R s m args below meth c H locs 0 0 Q (F0 m 49 ls []) := by
  intro n
  induction n with
  | zero =>
    intro i tx1 h1 h2
    exact absurd h2 (by omega)
  | succ n ih =>
    intro i tx1 hi hn ht1 ht2 H locs hP hD hS ls hl
    refine lv_iload_n hx hb dX1_close_49 rfl (lv_at hl 1 rfl) ?_
    refine lv_aload_n hx hb dX1_close_50 rfl (lv_at hl 0 rfl) ?_
    refine gM_size hx hb hts hown hK hP dX1_close_51 ?_
    refine wz_ge (tgt := 83) hx hb (by omega) (by omega) dX1_close_54 (by decide) (fun c_54 => ?_) (fun c_54 => ?_)
    · exact hk tx1 ht1 (by rw [show i = z from by omega] at ht2; exact ht2) _ _ hP hD hS ls (lv_sub hl [0] rfl)
    · refine lv_aload_n hx hb dX1_close_57 rfl (lv_at hl 0 rfl) ?_
      refine gM_texts hx hb hts hown hK hP dX1_close_58 ?_
      refine lv_bipush (v := nI 12) hx hb dX1_close_61 (by decide +kernel) ?_
      refine lv_aload_n hx hb dX1_close_63 rfl (lv_at hl 0 rfl) ?_
      refine gM_count hx hb hts hown hK hP dX1_close_64 ?_
      refine wz_imul hx hb dX1_close_67 ?_
      refine lv_iload_n hx hb dX1_close_68 rfl (lv_at hl 1 rfl) ?_
      refine wz_iadd hx hb dX1_close_69 ?_
      refine lv_aload_n hx hb dX1_close_70 rfl (lv_at hl 0 rfl) ?_
      refine gM_draftLines hx hb hts hown hK hP dX1_close_71 ?_
      refine lv_iload_n hx hb dX1_close_74 rfl (lv_at hl 1 rfl) ?_
      refine lM_draftLines hx hb hK hP (i := i) (by omega) dX1_close_75 ?_
      refine sM_texts hx hb hK hP hD hS (i := (12 * N) + i) (by omega) dX1_close_76 (fun tx_1 H locs tx_1a tx_1b hP hD hS => ?_)
      refine lv_iinc (v := nI (i + 1)) (lv' := [(1, .int (nI (i + 1))), (0, .ref g0)]) hx hb dX1_close_77 hl (k := 1) rfl (wz_inc1 i) (by decide) rfl (fun ls hl => ?_)
      refine lv_goto (tgt := 49) hx hb dX1_close_80 (by decide) ?_
      exact ih (i + 1) tx_1 (by omega) (by omega) (fun k hk2 => by rw [tx_1b k (by omega)]; exact ht1 k hk2) (fun k hk2 => by
        rcases Nat.lt_or_ge k i with q | q
        · rw [tx_1b (12 * N + k) (by omega)]; exact ht2 k q
        · obtain rfl : k = i := by omega
          exact tx_1a) _ _ hP hD hS ls (lv_sub hl [1, 0] rfl)
set_option maxHeartbeats 4000000 in
set_option maxRecDepth 100000 in
theorem mM_close (l : Launch) (D : va_G) (g0 g1 g2 g3 g4 g5 g6 : Nat) (e1 e2 e3 e4 e5 e6 : ClassId) (N : Nat) (sz : Nat → Int32) (ba : Nat → Int32) (tx : Nat → Int32) (L : Nat) (co : Nat → Int32) (ow : Nat → Int32) (dr : Int32) (fr : Int32) (lt : Nat) (z : Nat) (dl : Nat → Int32)  (hN : N ≤ 12) (hz12 : z ≤ 12) : MetI l yX1_close (ws_ yX1_close cX1_close 2 (some .int)) zr0 D (TYM e1 e2 e3 e4 e5 e6) [.ref g0] (MW g0 g1 g2 g3 g4 g5 g6 e1 e2 e3 e4 e5 e6 N sz ba tx L co ow dr fr lt z dl) (fun r (u : Nat × (Nat → Int32) × (Nat → Int32) × (Nat → Int32) × Int32) => mCloseP N sz ba tx dr fr z dl r u.1 u.2.1 u.2.2.1 u.2.2.2.1 u.2.2.2.2) (fun u : Nat × (Nat → Int32) × (Nat → Int32) × (Nat → Int32) × Int32 => MW g0 g1 g2 g3 g4 g5 g6 e1 e2 e3 e4 e5 e6 u.1 u.2.1 u.2.2.1 u.2.2.2.1 L co ow u.2.2.2.2 fr lt z dl) := by
  intro sz
  refine Met.ofW (cc := cX1_close) (maxL := 2) (ret := some .int) (by decide) rfl ?_
  intro p e s m args below meth c s₁ B hml hv
  obtain ⟨rfl, hsz, hP, hK, hD0⟩ := hv
  have hx := B.exec
  have hb := B.bytes
  have hret := B.returns
  have hts := atoms_spec (ws := ws_ yX1_close cX1_close 2 (some .int)) B.pre
  have hts : ∀ w ∈ lw_all, w.before _ s = true := fun w h => hts w (List.mem_cons_of_mem _ h)
  have hown : s.vm.findClass RX1 = some m.cls := findClass_of_methodNamed B.named
  have hlocks := B.notSynchronized
  subst hsz
  have hD := hD0.self (sz := s.heap.size)
  generalize hAe : va_A (MW g0 g1 g2 g3 g4 g5 g6 e1 e2 e3 e4 e5 e6 N sz ba tx L co ow dr fr lt z dl) s.heap.size = A at hD ⊢
  have hA : ∀ q : Nat, s.heap.size ≤ q → A q := fun q h => by rw [← hAe]; exact Or.inr h
  have hS : va_S A s.heap s.heap [] := va_S.rf
  have hl := lv_entry ([.ref g0]) (n := 2) (Nat.le_of_ble_eq_true rfl)
  rw [lg_entry_eq]
  generalize (lg_sl ([.ref g0]) ++ List.replicate (2 - (lg_sl ([.ref g0])).length) Slot.unset).toArray = ls at hl ⊢
  have hl : lv_has ls 2 [(0, .ref g0)] := hl
  refine lv_aload_n hx hb dX1_close_0 rfl (lv_at hl 0 rfl) ?_
  refine gM_drafting hx hb hts hown hK hP dX1_close_1 ?_
  refine lv_if_ne (tgt := 9) hx hb dX1_close_4 (by decide) (fun c_4 => ?_) (fun c_4 => ?_)
  · refine lv_aload_n hx hb dX1_close_9 rfl (lv_at hl 0 rfl) ?_
    refine gM_count hx hb hts hown hK hP dX1_close_10 ?_
    refine lv_bipush (v := nI 12) hx hb dX1_close_13 (by decide +kernel) ?_
    refine wz_lt (tgt := 21) hx hb (by omega) (by omega) dX1_close_15 (by decide) (fun c_15 => ?_) (fun c_15 => ?_)
    · refine lv_aload_n hx hb dX1_close_21 rfl (lv_at hl 0 rfl) ?_
      refine gM_sizes hx hb hts hown hK hP dX1_close_22 ?_
      refine lv_aload_n hx hb dX1_close_25 rfl (lv_at hl 0 rfl) ?_
      refine gM_count hx hb hts hown hK hP dX1_close_26 ?_
      refine lv_aload_n hx hb dX1_close_29 rfl (lv_at hl 0 rfl) ?_
      refine gM_size hx hb hts hown hK hP dX1_close_30 ?_
      refine sM_sizes hx hb hK hP hD hS (i := N) (by omega) dX1_close_33 (fun sz_1 H locs sz_1a sz_1b hP hD hS => ?_)
      refine lv_aload_n hx hb dX1_close_34 rfl (lv_at hl 0 rfl) ?_
      refine gM_bases hx hb hts hown hK hP dX1_close_35 ?_
      refine lv_aload_n hx hb dX1_close_38 rfl (lv_at hl 0 rfl) ?_
      refine gM_count hx hb hts hown hK hP dX1_close_39 ?_
      refine lv_aload_n hx hb dX1_close_42 rfl (lv_at hl 0 rfl) ?_
      refine gM_from hx hb hts hown hK hP dX1_close_43 ?_
      refine sM_bases hx hb hK hP hD hS (i := N) (by omega) dX1_close_46 (fun ba_2 H locs ba_2a ba_2b hP hD hS => ?_)
      refine lv_iconst (v := nI 0) hx hb dX1_close_47 (by decide +kernel) ?_
      refine lv_istore_n (lv' := [(1, .int (nI 0)), (0, .ref g0)]) hx hb dX1_close_48 rfl hl (by decide) rfl (fun ls hl => ?_)
      refine lpM_close (tx := tx) hx hb hml hown hts hA hK ⟨Nat.le_of_ble_eq_true rfl, Nat.le_of_ble_eq_true rfl⟩ c_15 hz12 (fun tx1 ht1 ht2 H locs hP hD hS ls hl => ?_) (z + 1) 0 tx (Nat.zero_le _) (by omega) (fun _ _ => rfl) (fun k hk => absurd hk (Nat.not_lt_zero _)) _ _ hP hD hS ls (lv_sub hl [1, 0] rfl)
      refine lv_aload_n hx hb dX1_close_83 rfl (lv_at hl 0 rfl) ?_
      refine lv_iconst (v := nI 0) hx hb dX1_close_84 (by decide +kernel) ?_
      refine uM_drafting hx hb hts hown hK hP hD hS rfl rfl dX1_close_85 (fun H locs hP hD hS => ?_)
      refine lv_aload_n hx hb dX1_close_88 rfl (lv_at hl 0 rfl) ?_
      refine lv_dup hx hb dX1_close_89 rfl ?_
      refine gM_count hx hb hts hown hK hP dX1_close_90 ?_
      refine lv_iconst (v := nI 1) hx hb dX1_close_93 (by decide +kernel) ?_
      refine wz_iadd hx hb dX1_close_94 ?_
      refine uM_count hx hb hts hown hK hP hD hS dX1_close_95 (fun H locs hP hD hS => ?_)
      refine lv_aload_n hx hb dX1_close_98 rfl (lv_at hl 0 rfl) ?_
      refine gM_count hx hb hts hown hK hP dX1_close_99 ?_
      refine lv_iconst (v := nI 1) hx hb dX1_close_102 (by decide +kernel) ?_
      refine wz_isub hx hb N (by omega) dX1_close_103 ?_
      exact W.iret (v := nI N) hx hb hret (fun t ht hW => ⟨⟨nI N, (N + 1, sz_1, ba_2, tx1, nI 0), rfl, Or.inr (Or.inr ⟨c_4, c_15, rfl, rfl, ⟨sz_1a, sz_1b⟩, ⟨ba_2a, ba_2b⟩, ht1, ht2, rfl⟩), ⟨by rw [ht]; exact hP, va_K.moved hW.alike hK, hD⟩⟩, hS.F ht⟩) hS.2.2 dX1_close_104
    · refine lv_bipush (v := -2) hx hb dX1_close_18 (by decide +kernel) ?_
      exact W.iret (v := -2) hx hb hret (fun t ht hW => ⟨⟨-2, (N, sz, ba, tx, dr), rfl, Or.inr (Or.inl ⟨c_4, c_15, rfl, rfl, rfl, rfl, rfl, rfl⟩), ⟨by rw [ht]; exact hP, va_K.moved hW.alike hK, hD⟩⟩, hS.F ht⟩) hS.2.2 dX1_close_20
  · refine lv_iconst (v := -1) hx hb dX1_close_7 (by decide +kernel) ?_
    exact W.iret (v := -1) hx hb hret (fun t ht hW => ⟨⟨-1, (N, sz, ba, tx, dr), rfl, Or.inl ⟨c_4, rfl, rfl, rfl, rfl, rfl, rfl⟩, ⟨by rw [ht]; exact hP, va_K.moved hW.alike hK, hD⟩⟩, hS.F ht⟩) hS.2.2 dX1_close_8
end
section
/-! bits of an Int32 (the first rows out of the kit's bits family), and what 'shown' is by bits -/
def bt (x : Int32) (i : Nat) : Bool := x.toBitVec.getLsbD i
theorem b_ext {x y : Int32} (h : ∀ i, i < 32 → bt x i = bt y i) : x = y := Int32.toBitVec_inj.mp (BitVec.eq_of_getLsbD_eq (fun i hi => h i hi))
theorem b_or (x y : Int32) (i : Nat) : bt (x ||| y) i = (bt x i || bt y i) := by unfold bt; rw [Int32.toBitVec_or, BitVec.getLsbD_or]
theorem b_and (x y : Int32) (i : Nat) : bt (x &&& y) i = (bt x i && bt y i) := by unfold bt; rw [Int32.toBitVec_and, BitVec.getLsbD_and]
theorem b_xor (x y : Int32) (i : Nat) : bt (x ^^^ y) i = (bt x i ^^ bt y i) := by unfold bt; rw [Int32.toBitVec_xor, BitVec.getLsbD_xor]
theorem b_m1 : ∀ i, i < 32 → bt (-1) i = true := by decide +kernel
theorem b_0 (i : Nat) : bt 0 i = false := BitVec.getLsbD_zero
theorem s_l : ∀ n, n < 32 → ((nI n &&& 31).toBitVec.smod 32).toNat = n := by decide +kernel
theorem b_shl (n : Nat) (hn : n < 32) (x : Int32) {i : Nat} (hi : i < 32) : bt (x <<< (nI n &&& 31)) i = (decide (n ≤ i) && bt x (i - n)) := by
  unfold bt
  rw [Int32.toBitVec_shiftLeft]
  show (x.toBitVec <<< ((nI n &&& 31).toBitVec.smod 32).toNat).getLsbD i = _
  rw [s_l n hn, BitVec.getLsbD_shiftLeft]
  rcases Nat.lt_or_ge i n with h | h
  · simp [h, Nat.not_le.mpr h]
  · simp [hi, h, Nat.not_lt.mpr h]
theorem b_sshr (n : Nat) (hn : n < 32) (x : Int32) {i : Nat} (hi : i < 32) : bt (x >>> (nI n &&& 31)) i = if n + i < 32 then bt x (n + i) else bt x 31 := by
  unfold bt
  rw [Int32.toBitVec_shiftRight]
  show (x.toBitVec.sshiftRight ((nI n &&& 31).toBitVec.smod 32).toNat).getLsbD i = _
  rw [s_l n hn, BitVec.getLsbD_sshiftRight, BitVec.msb_eq_getLsbD_last]
  simp [hi]
theorem b_one : ∀ i, i < 32 → bt (nI 1) i = decide (i = 0) := by decide +kernel
theorem b_cbit {N i : Nat} (hN : N < 32) (hi : i < 32) : bt (cbit N) i = decide (i = N) := by
  unfold cbit
  rw [b_shl N hN _ hi]
  rcases Nat.lt_trichotomy i N with h | h | h
  · rw [decide_eq_false (show ¬ N ≤ i by omega), decide_eq_false (show ¬ i = N by omega)]; rfl
  · subst h
    rw [Nat.sub_self, decide_eq_true (Nat.le_refl i), decide_eq_true (rfl : i = i)]; decide +kernel
  · rw [b_one _ (by omega), decide_eq_false (show ¬ i - N = 0 by omega), decide_eq_false (show ¬ i = N by omega), Bool.and_false]
theorem b_clr {N i : Nat} (t : Int32) (hN : N < 32) (hi : i < 32) : bt (clr N t) i = (bt t i && decide (¬ i = N)) := by
  unfold clr
  rw [b_and, b_xor, b_cbit hN hi, b_m1 i hi]
  by_cases h : i = N
  · rw [decide_eq_true h, decide_eq_false (fun q => q h)]; rfl
  · rw [decide_eq_false h, decide_eq_true h]; rfl
theorem and0_iff {t S : Int32} : t &&& S = 0 ↔ ∀ i, i < 32 → (bt t i && bt S i) = false := by
  constructor
  · intro h i hi
    rw [← b_and, h]; exact b_0 i
  · intro h
    refine b_ext (fun i hi => ?_)
    rw [b_and, b_0]; exact h i hi
theorem bit0_iff {S : Int32} {o : Nat} (ho : o < 32) : ((S >>> (nI o &&& 31)) &&& nI 1) = 0 ↔ bt S o = false := by
  rw [and0_iff]
  constructor
  · intro h
    have h1 := h 0 (by omega)
    rw [b_sshr o ho S (by omega), if_pos (by omega), b_one 0 (by omega)] at h1
    simpa using h1
  · intro h i hi
    rw [b_one i hi]
    by_cases q : i = 0
    · subst q
      rw [b_sshr o ho S (by omega), if_pos (by omega), Nat.add_zero, h]; rfl
    · rw [decide_eq_false q, Bool.and_false]
/-- shown, by bits -/
theorem sh_iff {o : Nat} {t S : Int32} (ho : o < 32) : sh (nI o) t S = true ↔ bt S o = true ∧ ∀ i, i < 32 → (bt t i && bt S i) = false := by
  unfold sh
  rw [Bool.and_eq_true, decide_eq_true_eq, decide_eq_true_eq, bit0_iff ho, and0_iff]
  constructor
  · rintro ⟨a, b⟩
    exact ⟨by cases q : bt S o with | true => rfl | false => exact absurd q a, b⟩
  · rintro ⟨a, b⟩
    exact ⟨by rw [a]; decide, b⟩
theorem sh_congr {o : Nat} {t S t2 S2 : Int32} (ho : o < 32) (h1 : bt S o = bt S2 o) (h2 : ∀ i, i < 32 → (bt t i && bt S i) = (bt t2 i && bt S2 i)) : sh (nI o) t S = sh (nI o) t2 S2 := by
  rw [Bool.eq_iff_iff, sh_iff ho, sh_iff ho, h1]
  constructor
  · rintro ⟨a, b⟩
    exact ⟨a, fun i hi => by rw [← h2 i hi]; exact b i hi⟩
  · rintro ⟨a, b⟩
    exact ⟨a, fun i hi => by rw [h2 i hi]; exact b i hi⟩
theorem sh_off {o : Nat} {t S : Int32} (ho : o < 32) (h : bt S o = false) : sh (nI o) t S = false := by
  cases q : sh (nI o) t S with
  | false => rfl
  | true => rw [sh_iff ho, h] at q; exact absurd q.1 (by decide)
theorem sh_cut {o N : Nat} {t S : Int32} (ho : o < 32) (hN : N < 32) (ht : bt t N = true) (hS : bt S N = true) : sh (nI o) t S = false := by
  cases q : sh (nI o) t S with
  | false => rfl
  | true => rw [sh_iff ho] at q; have := q.2 N hN; rw [ht, hS] at this; exact absurd this (by decide)
/-- nothing set from the bit 13 on -/
theorem n16 {x : Int32} (h : ∀ i, 13 ≤ i → i < 32 → bt x i = false) : x.toInt16.toInt32 = x := by
  refine b_ext (fun i hi => ?_)
  show ((x.toBitVec.signExtend 16).signExtend 32).getLsbD i = x.toBitVec.getLsbD i
  have h15 : x.toBitVec.getLsbD 15 = false := h 15 (by omega) (by omega)
  have hm : (BitVec.signExtend 16 x.toBitVec).msb = false := by
    rw [BitVec.msb_eq_getLsbD_last, BitVec.getLsbD_signExtend]
    simp
    exact h15
  rw [BitVec.getLsbD_signExtend, BitVec.getLsbD_signExtend, hm]
  by_cases q : i < 16
  · simp [hi, q, show i < 32 by omega]
  · have hi2 : x.toBitVec.getLsbD i = false := h i (by omega) hi
    rw [if_neg q, hi2, Bool.and_false]
end
section
/-! THE PLAIN LAW: how the weave and the reference hang together; what both answer -/
def rc_ok (N T : Nat) (co ow tk ba li sz mb tx mc mo : Nat → Int32) (Z id : Nat → Nat) : Prop :=
  (T ≤ 30 ∧ 1 ≤ N ∧ N ≤ 12) ∧
  (∀ j, j < N → sz j = nI (Z j) ∧ Z j ≤ 12) ∧
  ((∀ k, k < T → id k < T) ∧ ∀ a, a < T → ∀ b, b < T → id a = id b → a = b) ∧
  (∀ k, k < T → co k = mc (id k) ∧ ow k = mo (id k)) ∧
  (∀ k, k < T → ∃ x, x ≤ 99 ∧ co k = nI x) ∧
  (∀ k, k < T → ∃ o, o ≤ N ∧ ow k = nI o) ∧
  (∀ k, k < T → ∀ i, N < i → i < 32 → bt (tk k) i = false) ∧
  (li 0 = nI 1 ∧ mb 0 = -1 ∧ (∀ j, j < N → ba j = mb j) ∧ (∀ w, w < N → w ≠ 0 → ∃ b, b < w ∧ mb w = nI b ∧ li w = li b ||| cbit w) ∧ ∀ j, j < N → ∀ i, j < i → i < 32 → bt (li j) i = false) ∧
  (∀ j, j < N → Z j = cnt (pv ow tk (li j)) T ∧ ∀ k, k < T → pv ow tk (li j) k = true → tx (12 * j + cnt (pv ow tk (li j)) k) = nI (id k))
def rc_nd (N T : Nat) (ow tk : Nat → Int32) : Prop := ∀ k, k < T → ¬ ow k = nI N ∧ bt (tk k) N = false
def rc_dd (N T : Nat) (ow tk ba li : Nat → Int32) (fr : Int32) (lt z : Nat) (dl : Nat → Int32) (id : Nat → Nat) : Prop :=
  (∃ f, f < N ∧ fr = nI f ∧ ba N = nI f ∧ li N = li f ||| cbit N) ∧ z = cnt (pv ow tk (li N)) T ∧ (∀ k, k < T → pv ow tk (li N) k = true → dl (cnt (pv ow tk (li N)) k) = nI (id k)) ∧ lt = cnt (keep N ow) T ∧ ∀ k, k < T → (ow k = nI N ↔ lt ≤ id k)
def RelZ (N T : Nat) (co ow tk ba li : Nat → Int32) (dr : Int32) (sz mb tx mc mo : Nat → Int32) (fr : Int32) (lt z : Nat) (dl : Nat → Int32) (Z id : Nat → Nat) : Prop :=
  rc_ok N T co ow tk ba li sz mb tx mc mo Z id ∧ z ≤ 12 ∧ lt ≤ 30 ∧ ((dr = 0 ∧ rc_nd N T ow tk) ∨ (¬ dr = 0 ∧ rc_dd N T ow tk ba li fr lt z dl id))
def Rel (N T : Nat) (co ow tk ba li : Nat → Int32) (dr : Int32) (sz mb tx mc mo : Nat → Int32) (fr : Int32) (lt z : Nat) (dl : Nat → Int32) : Prop :=
  ∃ Z id : Nat → Nat, RelZ N T co ow tk ba li dr sz mb tx mc mo fr lt z dl Z id
section REL
variable {N T : Nat} {co ow tk ba li sz mb tx mc mo : Nat → Int32} {Z id : Nat → Nat} {dr fr : Int32} {lt z : Nat} {dl : Nat → Int32}
theorem rc_co8 (h : rc_ok N T co ow tk ba li sz mb tx mc mo Z id) : ∀ k, k < T → (co k).toInt8.toInt32 = co k := by
  intro k hk
  obtain ⟨x, hx, e⟩ := h.2.2.2.2.1 k hk
  rw [e]; exact nb_nI (by omega)
theorem rc_ow8 (h : rc_ok N T co ow tk ba li sz mb tx mc mo Z id) : ∀ k, k < T → (ow k).toInt8.toInt32 = ow k := by
  intro k hk
  obtain ⟨x, hx, e⟩ := h.2.2.2.2.2.1 k hk
  have := h.1.2.2
  rw [e]; exact nb_nI (by omega)
theorem rc_tk16 (h : rc_ok N T co ow tk ba li sz mb tx mc mo Z id) : ∀ k, k < T → (tk k).toInt16.toInt32 = tk k := by
  intro k hk
  have := h.1.2.2
  exact n16 (fun i h1 h2 => h.2.2.2.2.2.2.1 k hk i (by omega) h2)
theorem rc_cl16 (h : rc_ok N T co ow tk ba li sz mb tx mc mo Z id) : ∀ k, k < T → (clr N (tk k)).toInt16.toInt32 = clr N (tk k) := by
  intro k hk
  have := h.1.2.2
  exact n16 (fun i h1 h2 => by rw [b_clr _ (by omega) h2, h.2.2.2.2.2.2.1 k hk i (by omega) h2]; rfl)
theorem rc_tn16 (h : rc_ok N T co ow tk ba li sz mb tx mc mo Z id) : ∀ k, k < T → (tk k ||| cbit N).toInt16.toInt32 = tk k ||| cbit N := by
  intro k hk
  have := h.1.2.2
  exact n16 (fun i h1 h2 => by rw [b_or, b_cbit (by omega) h2, h.2.2.2.2.2.2.1 k hk i (by omega) h2, decide_eq_false (by omega)]; rfl)
theorem rc_li16 (h : rc_ok N T co ow tk ba li sz mb tx mc mo Z id) : ∀ j, j < N → (li j ||| cbit N).toInt16.toInt32 = li j ||| cbit N := by
  intro j hj
  have := h.1.2.2
  exact n16 (fun i h1 h2 => by rw [b_or, b_cbit (by omega) h2, h.2.2.2.2.2.2.2.1.2.2.2.2 j hj i (by omega) h2, decide_eq_false (by omega)]; rfl)
/-- the line at a place of a version's text -/
theorem rc_at (h : rc_ok N T co ow tk ba li sz mb tx mc mo Z id) {j i : Nat} (hj : j < N) (hi : i < Z j) : ∃ k, k < T ∧ pv ow tk (li j) k = true ∧ cnt (pv ow tk (li j)) k = i ∧ tx (12 * j + i) = nI (id k) := by
  obtain ⟨e1, e2⟩ := h.2.2.2.2.2.2.2.2 j hj
  rw [e1] at hi
  obtain ⟨k, a, b, c, -⟩ := sel_ex hi
  exact ⟨k, a, b, c, by rw [← c]; exact e2 k a b⟩
theorem rc_tx30 (h : rc_ok N T co ow tk ba li sz mb tx mc mo Z id) : ∀ j, j < N → ∀ i, i < Z j → ∃ n, n < 30 ∧ tx (12 * j + i) = nI n := by
  intro j hj i hi
  obtain ⟨k, a, b, c, e⟩ := rc_at h hj hi
  exact ⟨id k, by have := h.2.2.1.1 k a; have := h.1.1; omega, e⟩
theorem rc_dl30 (h : RelZ N T co ow tk ba li dr sz mb tx mc mo fr lt z dl Z id) : ¬ dr = 0 → ∀ i, i < z → ∃ n, n < 30 ∧ dl i = nI n := by
  intro hd i hi
  obtain ⟨h1, -, -, hh⟩ := h
  rcases hh with ⟨q, -⟩ | ⟨-, -, ez, hdl, -⟩
  · exact absurd q hd
  · rw [ez] at hi
    obtain ⟨k, a, b, c, -⟩ := sel_ex hi
    exact ⟨id k, by have := h1.2.2.1.1 k a; have := h1.1.1; omega, by rw [← c]; exact hdl k a b⟩
/-- a line's number stands in a version's text just where the line is shown -/
theorem rc_has (h : rc_ok N T co ow tk ba li sz mb tx mc mo Z id) {j k : Nat} (hj : j < N) (hk : k < T) : has (tv tx j) (nI (id k)) (Z j) = pv ow tk (li j) k := by
  have hT := h.1.1
  have hik := h.2.2.1.1 k hk
  rw [Bool.eq_iff_iff, has_iff]
  constructor
  · rintro ⟨i, hi, e⟩
    obtain ⟨k2, a, b, c, e2⟩ := rc_at h hj hi
    have hik2 := h.2.2.1.1 k2 a
    have e3 : nI (id k2) = nI (id k) := e2.symm.trans e
    rw [nI_eq (by omega) (by omega)] at e3
    rw [← h.2.2.1.2 k2 a k hk e3]; exact b
  · intro hp
    obtain ⟨e1, e2⟩ := h.2.2.2.2.2.2.2.2 j hj
    exact ⟨cnt (pv ow tk (li j)) k, by rw [e1]; exact cnt_lt hp hk, e2 k hk hp⟩
theorem rc_ffi (h : rc_ok N T co ow tk ba li sz mb tx mc mo Z id) {j k : Nat} (hj : j < N) (hk : k < T) : ffi (tv tx j) (nI (id k)) (Z j) = if pv ow tk (li j) k = true then nI (cnt (pv ow tk (li j)) k) else -1 := by
  have hT := h.1.1
  have hik := h.2.2.1.1 k hk
  rcases ffi_cases (tv tx j) (nI (id k)) (Z j) with ⟨a, b⟩ | ⟨a, i, hi, e, b⟩
  · rw [rc_has h hj hk] at a
    rw [b, if_neg (by rw [a]; decide)]
  · rw [rc_has h hj hk] at a
    obtain ⟨k2, a2, b2, c2, e2⟩ := rc_at h hj hi
    have hik2 := h.2.2.1.1 k2 a2
    have e3 : nI (id k2) = nI (id k) := e2.symm.trans e
    rw [nI_eq (by omega) (by omega)] at e3
    rw [b, if_pos a, ← c2, h.2.2.1.2 k2 a2 k hk e3]
theorem noneAt_no {len : Nat → Nat} {j ii : Nat} (hN : N ≤ 12) (hj : j < N) (hi : ii < len j) (hl : len j < 2 ^ 31) : ¬ noneAt N len (nI j) (nI ii) := by
  rintro (h | h | ⟨j2, h1, h2, h3⟩)
  · rw [vOk_nI (by omega) hj] at h; cases h
  · exact absurd h (nI_pos (by omega))
  · rw [nI_eq (by omega) (by omega)] at h2
    subst h2
    rw [nI_leI hl (by omega)] at h3
    omega
theorem at_agree (h : rc_ok N T co ow tk ba li sz mb tx mc mo Z id) {v i r1 r2 d : Int32} {F : Nat → Int32} {G : Int32 → Int32}
    (hx : xatP N T (fun j => pv ow tk (li j)) v i r1 d F) (hm : matP N Z tx v i r2 d G) (hFG : ∀ k, k < T → F k = G (nI (id k))) : r1 = r2 := by
  have hT := h.1.1
  have hN := h.1.2.2
  rcases hx with ⟨a, b⟩ | ⟨j, k, hj, hv, hk, hp, hi, hr⟩
  · rcases hm with ⟨a2, b2⟩ | ⟨j, ii, hj, hv, hii, hi, hr⟩
    · rw [b, b2]
    · subst hv; subst hi
      have e := (h.2.2.2.2.2.2.2.2 j hj).1
      have := cnt_le (pv ow tk (li j)) T
      exact absurd a (noneAt_no hN hj (by show ii < cnt (pv ow tk (li j)) T; omega) (by show cnt (pv ow tk (li j)) T < 2 ^ 31; omega))
  · rcases hm with ⟨a2, b2⟩ | ⟨j2, ii, hj2, hv2, hii, hi2, hr2⟩
    · subst hv; subst hi
      have e := (h.2.2.2.2.2.2.2.2 j hj).1
      have e2 : cnt (pv ow tk (li j)) k < cnt (pv ow tk (li j)) T := cnt_lt hp hk
      have := cnt_le (pv ow tk (li j)) T
      exact absurd a2 (noneAt_no hN hj (by show cnt (pv ow tk (li j)) k < Z j; omega) (by omega))
    · subst hv; subst hi
      rw [nI_eq (by omega) (by omega)] at hv2
      subst hv2
      have e2 : cnt (pv ow tk (li j)) k < cnt (pv ow tk (li j)) T := cnt_lt hp hk
      have := cnt_le (pv ow tk (li j)) T
      have := (h.2.1 j hj).2
      have hi2 : nI (cnt (pv ow tk (li j)) k) = nI ii := hi2
      rw [nI_eq (by omega) (by omega)] at hi2
      subst hi2
      have e3 := (h.2.2.2.2.2.2.2.2 j hj).2 k hk hp
      rw [hr, hr2, e3]
      exact hFG k hk
theorem ver_agree {v r1 r2 d : Int32} {F G : Nat → Int32} (hN : N ≤ 12) (hx : verP N v r1 d F) (hm : verP N v r2 d G) (hFG : ∀ j, j < N → F j = G j) : r1 = r2 := by
  rcases hx with ⟨a, b⟩ | ⟨j, hj, hv, hr⟩
  · rcases hm with ⟨a2, b2⟩ | ⟨j, hj, hv, hr⟩
    · rw [b, b2]
    · rw [hv, vOk_nI (by omega) hj] at a; cases a
  · rcases hm with ⟨a2, b2⟩ | ⟨j2, hj2, hv2, hr2⟩
    · rw [hv, vOk_nI (by omega) hj] at a2; cases a2
    · rw [hv, nI_eq (by omega) (by omega)] at hv2
      subst hv2
      rw [hr, hr2]; exact hFG j hj
theorem ver2_agree {v w r1 r2 : Int32} {F G : Nat → Nat → Int32} (hN : N ≤ 12) (hx : ver2P N v w r1 F) (hm : ver2P N v w r2 G) (hFG : ∀ j, j < N → ∀ j2, j2 < N → F j j2 = G j j2) : r1 = r2 := by
  have no : ∀ {a b : Nat}, a < N → b < N → ¬ (vOk N (nI a) = false ∨ vOk N (nI b) = false) := by
    intro a b ha hb q
    rw [vOk_nI (by omega) ha, vOk_nI (by omega) hb] at q
    rcases q with q | q <;> cases q
  rcases hx with ⟨a, b⟩ | ⟨j, j2, hj, hv, hj2, hw, hr⟩
  · rcases hm with ⟨a2, b2⟩ | ⟨j, j2, hj, hv, hj2, hw, hr⟩
    · rw [b, b2]
    · rw [hv, hw] at a; exact absurd a (no hj hj2)
  · rcases hm with ⟨a2, b2⟩ | ⟨i, i2, hi, hv2, hi2, hw2, hr2⟩
    · rw [hv, hw] at a2; exact absurd a2 (no hj hj2)
    · rw [hv, nI_eq (by omega) (by omega)] at hv2
      rw [hw, nI_eq (by omega) (by omega)] at hw2
      subst hv2; subst hw2
      rw [hr, hr2]; exact hFG j hj j2 hj2
theorem pl_agree (h : rc_ok N T co ow tk ba li sz mb tx mc mo Z id) (w : Int32) : ∀ k, k < T → xplF N (fun j => pv ow tk (li j)) w k = mplF N Z tx w (nI (id k)) := by
  intro k hk
  have hN := h.1.2.2
  cases hv : vOk N w with
  | false => rw [xplF_f1 hv, mplF_f hv]
  | true =>
    obtain ⟨j, hj, rfl⟩ := vOk_of (by omega) hv
    rw [mplF_t hN hj, rc_ffi h hj hk]
    cases hp : pv ow tk (li j) k with
    | false => rw [xplF_f2 hN hj hp]; rfl
    | true => rw [xplF_t hN hj hp]; rfl
theorem hv_agree (h : rc_ok N T co ow tk ba li sz mb tx mc mo Z id) : ∀ k, k < T → bset (fun w => pv ow tk (li w) k) N = bset (fun w => has (tv tx w) (nI (id k)) (Z w)) N := by
  intro k hk
  exact bset_congr (fun j hj => (rc_has h hj hk).symm)
theorem sr_agree (h : rc_ok N T co ow tk ba li sz mb tx mc mo Z id) : ∀ j, j < N → ∀ j2, j2 < N → nI (cnt (fun k => pv ow tk (li j) k && pv ow tk (li j2) k) T) = nI (cnt (fun i => has (tv tx j2) (tx (12 * j + i)) (Z j2)) (Z j)) := by
  intro j hj j2 hj2
  obtain ⟨e1, e2⟩ := h.2.2.2.2.2.2.2.2 j hj
  rw [e1, cnt_sub]
  refine congrArg nI (cnt_congr (fun k hk => ?_))
  show (pv ow tk (li j) k && pv ow tk (li j2) k) = (pv ow tk (li j) k && has (tv tx j2) (tx (12 * j + cnt (pv ow tk (li j)) k)) (Z j2))
  cases hp : pv ow tk (li j) k with
  | false => rfl
  | true => rw [e2 k hk hp, rc_has h hj2 hk]
theorem dr_agree (h : RelZ N T co ow tk ba li dr sz mb tx mc mo fr lt z dl Z id) (v : Int32) : drf dr v (cnt (pv ow tk (li N)) T) (cnt (fun k => pv ow tk (li N) k && decide (ow k = nI N)) T) = drf dr v z (cnt (fun i => decide (¬ dl i < nI lt)) z) := by
  obtain ⟨h1, hz, hlt, hh⟩ := h
  rcases hh with ⟨q, -⟩ | ⟨-, -, ez, hdl, elt, hid⟩
  · rw [drf_bad (Or.inl q), drf_bad (Or.inl q)]
  · have e : cnt (fun k => pv ow tk (li N) k && decide (ow k = nI N)) T = cnt (fun i => decide (¬ dl i < nI lt)) z := by
      rw [ez, cnt_sub]
      refine cnt_congr (fun k hk => ?_)
      show (pv ow tk (li N) k && decide (ow k = nI N)) = (pv ow tk (li N) k && decide (¬ dl (cnt (pv ow tk (li N)) k) < nI lt))
      cases hp : pv ow tk (li N) k with
      | false => rfl
      | true =>
        rw [hdl k hk hp]
        have h2 := h1.2.2.1.1 k hk
        have h3 := h1.1.1
        congr 1
        rw [decide_eq_decide, hid k hk, nI_ltI (by omega) (by omega)]
        omega
    rw [e, ez]
end REL
end
section
/-! THE PLAIN LAW: the changing calls keep the weave and the reference together -/
theorem cnt_all {p : Nat → Bool} {n : Nat} (h : ∀ k, k < n → p k = true) : cnt p n = n := by
  induction n with
  | zero => rfl
  | succ n ih => rw [cnt_t (h n (by omega)), ih (fun k hk => h k (by omega))]
theorem cnt_keep {kp p q : Nat → Bool} {T : Nat} (h1 : ∀ k, k < T → kp k = true → q (cnt kp k) = p k) (h2 : ∀ k, k < T → kp k = false → p k = false) : ∀ n, n ≤ T → cnt q (cnt kp n) = cnt p n := by
  intro n
  induction n with
  | zero => intro _; rfl
  | succ n ih =>
    intro hn
    have e := ih (by omega)
    cases hk : kp n with
    | true =>
      rw [cnt_t hk]
      have e1 := h1 n (by omega) hk
      cases hp : p n with
      | true => rw [cnt_t (e1.trans hp), cnt_t hp, e]
      | false => rw [cnt_f (e1.trans hp), cnt_f hp, e]
    | false => rw [cnt_f hk, cnt_f (h2 n (by omega) hk), e]
theorem cnt_ins1 {p q : Nat → Bool} {a : Nat} (h : ∀ k, k < a → q k = p k) : ∀ n, n ≤ a → cnt q n = cnt p n := fun _ hn => cnt_congr (fun k hk => h k (by omega))
theorem cnt_ins2 {p q : Nat → Bool} {a T c : Nat} (h1 : ∀ k, k < a → q k = p k) (h2 : c = if q a = true then 1 else 0) (h3 : ∀ k, a ≤ k → k < T → q (k + 1) = p k) : ∀ n, a ≤ n → n ≤ T → cnt q (n + 1) = cnt p n + c := by
  intro n
  induction n with
  | zero =>
    intro ha _
    obtain rfl : a = 0 := by omega
    rw [h2]; rfl
  | succ n ih =>
    intro ha hn
    rcases Nat.lt_or_ge n a with hl | hl
    · obtain rfl : a = n + 1 := by omega
      show cnt q (n + 1) + (if q (n + 1) = true then 1 else 0) = _
      rw [cnt_ins1 h1 (n + 1) (Nat.le_refl _), h2]
    · have e := ih hl (by omega)
      have e1 := h3 n hl (by omega)
      cases hp : p n with
      | true => rw [cnt_t (e1.trans hp), cnt_t hp, e]; omega
      | false => rw [cnt_f (e1.trans hp), cnt_f hp, e]
theorem cnt_del {p q : Nat → Bool} {a : Nat} (hp : p a = true) (hq : q a = false) (h : ∀ k, k ≠ a → q k = p k) : (∀ n, n ≤ a → cnt q n = cnt p n) ∧ ∀ n, a < n → cnt q n + 1 = cnt p n := by
  have h1 : ∀ n, n ≤ a → cnt q n = cnt p n := fun n hn => cnt_congr (fun k hk => h k (by omega))
  refine ⟨h1, ?_⟩
  intro n
  induction n with
  | zero => intro hn; omega
  | succ n ih =>
    intro hn
    rcases Nat.lt_or_ge a n with hl | hl
    · have e := ih hl
      have e1 := h n (by omega)
      cases hpn : p n with
      | true => rw [cnt_t (e1.trans hpn), cnt_t hpn, e]
      | false => rw [cnt_f (e1.trans hpn), cnt_f hpn, e]
    · obtain rfl : a = n := by omega
      rw [cnt_t hp, cnt_f hq, h1 a (Nat.le_refl _)]
theorem ins_cases {a T k : Nat} (ha : a ≤ T) (hk : k < T + 1) : k < a ∨ k = a ∨ ∃ k2, k = k2 + 1 ∧ a ≤ k2 ∧ k2 < T := by
  rcases Nat.lt_trichotomy k a with h | h | h
  · exact Or.inl h
  · exact Or.inr (Or.inl h)
  · exact Or.inr (Or.inr ⟨k - 1, by omega, by omega, by omega⟩)
section CHG
variable {N T : Nat} {co ow tk ba li sz mb tx mc mo : Nat → Int32} {Z id : Nat → Nat} {dr fr : Int32} {lt z : Nat} {dl : Nat → Int32}
theorem rc_liN (h : rc_ok N T co ow tk ba li sz mb tx mc mo Z id) {j : Nat} (hj : j < N) : bt (li j) N = false := h.2.2.2.2.2.2.2.1.2.2.2.2 j hj N hj (by have := h.1.2.2; omega)
theorem rel_sweep (h : rc_ok N T co ow tk ba li sz mb tx mc mo Z id) (hd : rc_dd N T ow tk ba li fr lt z dl id) {T2 : Nat} {co2 ow2 tk2 : Nat → Int32} (hs : swP N T co ow tk T2 co2 ow2 tk2) :
    T2 = lt ∧ ∃ id2 : Nat → Nat, rc_ok N T2 co2 ow2 tk2 ba li sz mb tx mc mo Z id2 ∧ rc_nd N T2 ow2 tk2 := by
  obtain ⟨eT, hmv⟩ := hs
  obtain ⟨-, ez, hdl, elt, hid⟩ := hd
  have hN := h.1.2.2
  have tr : ∀ j, j < T2 → ∃ k, k < T ∧ keep N ow k = true ∧ cnt (keep N ow) k = j ∧ id (sel (keep N ow) T j) = id k ∧ co2 j = co k ∧ ow2 j = ow k ∧ tk2 j = clr N (tk k) := by
    intro j hj
    rw [eT] at hj
    obtain ⟨k, a, b, c, e⟩ := sel_ex hj
    obtain ⟨m1, m2, m3⟩ := hmv k a b
    exact ⟨k, a, b, c, by rw [e], by rw [← c]; exact m1, by rw [← c]; exact m2, by rw [← c]; exact m3⟩
  have kt : ∀ k, keep N ow k = true → ¬ ow k = nI N := fun k hk => of_decide_eq_true hk
  have kf : ∀ k, keep N ow k = false → ow k = nI N := fun k hk => Decidable.of_not_not (of_decide_eq_false hk)
  have hTl : T2 ≤ T := by rw [eT]; exact cnt_le _ _
  refine ⟨by rw [eT, elt], fun j => id (sel (keep N ow) T j), ?_, ?_⟩
  · refine ⟨⟨by have := h.1.1; omega, h.1.2.1, hN⟩, h.2.1, ⟨fun j hj => ?_, fun a ha b hb e => ?_⟩, fun j hj => ?_, fun j hj => ?_, fun j hj => ?_, fun j hj i h1 h2 => ?_, h.2.2.2.2.2.2.2.1, fun j hj => ?_⟩
    · obtain ⟨k, a, b, c, e, -⟩ := tr j hj
      show id (sel (keep N ow) T j) < T2
      rw [e, eT, ← elt]
      have : ¬ lt ≤ id k := fun q => kt k b ((hid k a).mpr q)
      omega
    · obtain ⟨k1, a1, b1, c1, e1, -⟩ := tr a ha
      obtain ⟨k2, a2, b2, c2, e2, -⟩ := tr b hb
      have e : id (sel (keep N ow) T a) = id (sel (keep N ow) T b) := e
      rw [e1, e2] at e
      rw [← c1, ← c2, h.2.2.1.2 k1 a1 k2 a2 e]
    · obtain ⟨k, a, b, c, e, q1, q2, q3⟩ := tr j hj
      show co2 j = mc (id (sel (keep N ow) T j)) ∧ ow2 j = mo (id (sel (keep N ow) T j))
      rw [e, q1, q2]; exact h.2.2.2.1 k a
    · obtain ⟨k, a, b, c, e, q1, q2, q3⟩ := tr j hj
      rw [q1]; exact h.2.2.2.2.1 k a
    · obtain ⟨k, a, b, c, e, q1, q2, q3⟩ := tr j hj
      rw [q2]; exact h.2.2.2.2.2.1 k a
    · obtain ⟨k, a, b, c, e, q1, q2, q3⟩ := tr j hj
      rw [q3, b_clr _ (by omega) h2, h.2.2.2.2.2.2.1 k a i h1 h2]; rfl
    · obtain ⟨e1, e2⟩ := h.2.2.2.2.2.2.2.2 j hj
      have hb := rc_liN h hj
      have hp : ∀ k, k < T → keep N ow k = true → pv ow2 tk2 (li j) (cnt (keep N ow) k) = pv ow tk (li j) k := by
        intro k hk hkp
        obtain ⟨m1, m2, m3⟩ := hmv k hk hkp
        obtain ⟨o, ho, eo⟩ := h.2.2.2.2.2.1 k hk
        show sh (ow2 _) (tk2 _) (li j) = sh (ow k) (tk k) (li j)
        rw [m2, m3, eo]
        refine sh_congr (by omega) rfl (fun i hi => ?_)
        rw [b_clr _ (by omega) hi]
        by_cases q : i = N
        · subst q; rw [hb, Bool.and_false, Bool.and_false]
        · rw [decide_eq_true q, Bool.and_true]
      have hp2 : ∀ k, k < T → keep N ow k = false → pv ow tk (li j) k = false := by
        intro k hk hkp
        show sh (ow k) (tk k) (li j) = false
        rw [kf k hkp]; exact sh_off (by omega) hb
      have hc := cnt_keep hp hp2
      refine ⟨by rw [eT, hc T (Nat.le_refl _)]; exact e1, fun j2 hj2 hpj => ?_⟩
      obtain ⟨k, a, b, c, e, -⟩ := tr j2 hj2
      show tx (12 * j + cnt (pv ow2 tk2 (li j)) j2) = nI (id (sel (keep N ow) T j2))
      rw [e, ← c, hc k (by omega)]
      rw [← c, hp k a b] at hpj
      exact e2 k a hpj
  · intro j hj
    obtain ⟨k, a, b, c, e, q1, q2, q3⟩ := tr j hj
    rw [q2, q3, b_clr _ (by omega) (by omega)]
    exact ⟨kt k b, by rw [decide_eq_false (fun q => q rfl), Bool.and_false]⟩
theorem rel_open (h : rc_ok N T co ow tk ba li sz mb tx mc mo Z id) (hn : rc_nd N T ow tk) {j : Nat} (hj : j < N) {ba2 li2 dl2 : Nat → Int32} (hb : ba2 N = nI j ∧ ∀ k, k ≠ N → ba2 k = ba k) (hl : li2 N = li j ||| cbit N ∧ ∀ k, k ≠ N → li2 k = li k) (hd : ∀ i, i < Z j → dl2 i = tx (12 * j + i)) :
    rc_ok N T co ow tk ba2 li2 sz mb tx mc mo Z id ∧ rc_dd N T ow tk ba2 li2 (nI j) T (Z j) dl2 id ∧ Z j = cnt (pv ow tk (li2 N)) T := by
  have hN := h.1.2.2
  have hN1 := h.1.2.1
  have ls : ∀ i, i < N → li2 i = li i := fun i hi => hl.2 i (by omega)
  have hp : ∀ k, k < T → pv ow tk (li2 N) k = pv ow tk (li j) k := by
    intro k hk
    obtain ⟨o, ho, eo⟩ := h.2.2.2.2.2.1 k hk
    obtain ⟨n1, n2⟩ := hn k hk
    have hoN : o ≠ N := fun q => n1 (by rw [eo, q])
    show sh (ow k) (tk k) (li2 N) = sh (ow k) (tk k) (li j)
    rw [eo, hl.1]
    refine sh_congr (by omega) ?_ (fun i hi => ?_)
    · rw [b_or, b_cbit (by omega) (by omega), decide_eq_false hoN, Bool.or_false]
    · rw [b_or, b_cbit (by omega) hi]
      by_cases q : i = N
      · subst q; rw [n2]; rfl
      · rw [decide_eq_false q, Bool.or_false]
  obtain ⟨e1, e2⟩ := h.2.2.2.2.2.2.2.2 j hj
  have ez : Z j = cnt (pv ow tk (li2 N)) T := by rw [e1]; exact (cnt_congr hp).symm
  refine ⟨⟨h.1, h.2.1, h.2.2.1, h.2.2.2.1, h.2.2.2.2.1, h.2.2.2.2.2.1, h.2.2.2.2.2.2.1, ⟨?_, h.2.2.2.2.2.2.2.1.2.1, ?_, ?_, ?_⟩, ?_⟩, ⟨⟨j, hj, rfl, hb.1, ?_⟩, ez, ?_, ?_, ?_⟩, ez⟩
  · rw [ls 0 (by omega)]; exact h.2.2.2.2.2.2.2.1.1
  · intro i hi
    rw [hb.2 i (by omega)]; exact h.2.2.2.2.2.2.2.1.2.2.1 i hi
  · intro w hw hw0
    obtain ⟨b, q1, q2, q3⟩ := h.2.2.2.2.2.2.2.1.2.2.2.1 w hw hw0
    exact ⟨b, q1, q2, by rw [ls w hw, ls b (by omega)]; exact q3⟩
  · intro i hi
    rw [ls i hi]; exact h.2.2.2.2.2.2.2.1.2.2.2.2 i hi
  · intro i hi
    rw [ls i hi]; exact h.2.2.2.2.2.2.2.2 i hi
  · rw [ls j hj]; exact hl.1
  · intro k hk hpk
    rw [cnt_congr (fun i hi => hp i (by omega))]
    rw [hp k hk] at hpk
    rw [hd _ (by rw [e1]; exact cnt_lt hpk hk)]
    exact e2 k hk hpk
  · exact (cnt_all (fun k hk => keep_t (hn k hk).1)).symm
  · intro k hk
    have := h.2.2.1.1 k hk
    exact ⟨fun q => absurd q (hn k hk).1, fun q => absurd q (by omega)⟩
theorem dd_liN (h : rc_ok N T co ow tk ba li sz mb tx mc mo Z id) (hd : rc_dd N T ow tk ba li fr lt z dl id) : bt (li N) N = true := by
  obtain ⟨⟨f, hf, -, -, e⟩, -⟩ := hd
  have := h.1.2.2
  rw [e, b_or, b_cbit (by omega) (by omega), decide_eq_true rfl, Bool.or_true]
theorem rel_put (h : rc_ok N T co ow tk ba li sz mb tx mc mo Z id) (hd : rc_dd N T ow tk ba li fr lt z dl id) {a ii : Nat} {x : Int32} {co2 ow2 tk2 dl2 mc2 mo2 : Nat → Int32} (hT : T < 30) (ha : a ≤ T) (hi : cnt (pv ow tk (li N)) a = ii) (hx : ∃ k, k ≤ 99 ∧ x = nI k)
    (h1 : insP a T co x co2) (h2 : insP a T ow (nI N) ow2) (h3 : insP a T tk (nI 0) tk2) (h4 : insP ii z dl (nI T) dl2) (h5 : mc2 T = x ∧ ∀ k, k ≠ T → mc2 k = mc k) (h6 : mo2 T = nI N ∧ ∀ k, k ≠ T → mo2 k = mo k) :
    ∃ id2 : Nat → Nat, rc_ok N (T + 1) co2 ow2 tk2 ba li sz mb tx mc2 mo2 Z id2 ∧ rc_dd N (T + 1) ow2 tk2 ba li fr lt (z + 1) dl2 id2 := by
  have hN := h.1.2.2
  have hbN := dd_liN h hd
  obtain ⟨hf, ez, hdl, elt, hid⟩ := hd
  have hltT : lt ≤ T := by rw [elt]; exact cnt_le _ _
  obtain ⟨id2, i1, i2, i3⟩ : ∃ id2 : Nat → Nat, (∀ k, k < a → id2 k = id k) ∧ id2 a = T ∧ ∀ k, a ≤ k → k < T → id2 (k + 1) = id k := by
    refine ⟨fun k => if k < a then id k else if k = a then T else id (k - 1), fun k hk => if_pos hk, ?_, fun k h1 h2 => ?_⟩
    · show (if a < a then _ else if a = a then T else _) = T
      rw [if_neg (Nat.lt_irrefl a), if_pos rfl]
    · show (if k + 1 < a then _ else if k + 1 = a then T else id (k + 1 - 1)) = id k
      rw [if_neg (by omega), if_neg (by omega)]; rfl
  -- shown or not, behind the insertion
  have p1 : ∀ S k, k < a → pv ow2 tk2 S k = pv ow tk S k := by
    intro S k hk
    show sh (ow2 k) (tk2 k) S = sh (ow k) (tk k) S
    rw [h2.1 k hk, h3.1 k hk]
  have p2 : ∀ S, pv ow2 tk2 S a = sh (nI N) (nI 0) S := by
    intro S
    show sh (ow2 a) (tk2 a) S = _
    rw [h2.2.1, h3.2.1]
  have p3 : ∀ S k, a ≤ k → k < T → pv ow2 tk2 S (k + 1) = pv ow tk S k := by
    intro S k hk hkT
    show sh (ow2 (k + 1)) (tk2 (k + 1)) S = sh (ow k) (tk k) S
    rw [h2.2.2 k hk hkT, h3.2.2 k hk hkT]
  refine ⟨id2, ⟨⟨by omega, h.1.2.1, hN⟩, h.2.1, ⟨fun k hk => ?_, fun k hk k2 hk2 e => ?_⟩, fun k hk => ?_, fun k hk => ?_, fun k hk => ?_, fun k hk i q1 q2 => ?_, h.2.2.2.2.2.2.2.1, fun j hj => ?_⟩, ⟨hf, ?_, ?_, ?_, ?_⟩⟩
  · rcases ins_cases ha hk with q | rfl | ⟨k2, rfl, q1, q2⟩
    · rw [i1 k q]; have := h.2.2.1.1 k (by omega); omega
    · rw [i2]; omega
    · rw [i3 k2 q1 q2]; have := h.2.2.1.1 k2 q2; omega
  · rcases ins_cases ha hk with q | rfl | ⟨c, rfl, q1, q2⟩ <;> rcases ins_cases ha hk2 with r | rfl | ⟨d, rfl, r1, r2⟩
    · rw [i1 k q, i1 k2 r] at e; exact h.2.2.1.2 k (by omega) k2 (by omega) e
    · rw [i1 k q, i2] at e; have := h.2.2.1.1 k (by omega); omega
    · rw [i1 k q, i3 d r1 r2] at e; have := h.2.2.1.2 k (by omega) d r2 e; omega
    · rw [i2, i1 k2 r] at e; have := h.2.2.1.1 k2 (by omega); omega
    · rfl
    · rw [i2, i3 d r1 r2] at e; have := h.2.2.1.1 d r2; omega
    · rw [i3 c q1 q2, i1 k2 r] at e; have := h.2.2.1.2 c q2 k2 (by omega) e; omega
    · rw [i3 c q1 q2, i2] at e; have := h.2.2.1.1 c q2; omega
    · rw [i3 c q1 q2, i3 d r1 r2] at e; rw [h.2.2.1.2 c q2 d r2 e]
  · rcases ins_cases ha hk with q | rfl | ⟨c, rfl, q1, q2⟩
    · have := h.2.2.1.1 k (by omega)
      rw [i1 k q, h1.1 k q, h2.1 k q, h5.2 _ (by omega), h6.2 _ (by omega)]; exact h.2.2.2.1 k (by omega)
    · rw [i2, h1.2.1, h2.2.1, h5.1, h6.1]; exact ⟨rfl, rfl⟩
    · have := h.2.2.1.1 c q2
      rw [i3 c q1 q2, h1.2.2 c q1 q2, h2.2.2 c q1 q2, h5.2 _ (by omega), h6.2 _ (by omega)]; exact h.2.2.2.1 c q2
  · rcases ins_cases ha hk with q | rfl | ⟨c, rfl, q1, q2⟩
    · rw [h1.1 k q]; exact h.2.2.2.2.1 k (by omega)
    · rw [h1.2.1]; exact hx
    · rw [h1.2.2 c q1 q2]; exact h.2.2.2.2.1 c q2
  · rcases ins_cases ha hk with q | rfl | ⟨c, rfl, q1, q2⟩
    · rw [h2.1 k q]; exact h.2.2.2.2.2.1 k (by omega)
    · rw [h2.2.1]; exact ⟨N, Nat.le_refl _, rfl⟩
    · rw [h2.2.2 c q1 q2]; exact h.2.2.2.2.2.1 c q2
  · rcases ins_cases ha hk with q | rfl | ⟨c, rfl, r1, r2⟩
    · rw [h3.1 k q]; exact h.2.2.2.2.2.2.1 k (by omega) i q1 q2
    · rw [h3.2.1]; exact b_0 i
    · rw [h3.2.2 c r1 r2]; exact h.2.2.2.2.2.2.1 c r2 i q1 q2
  · obtain ⟨e1, e2⟩ := h.2.2.2.2.2.2.2.2 j hj
    have pa : pv ow2 tk2 (li j) a = false := by rw [p2]; exact sh_off (by omega) (rc_liN h hj)
    have c2 := cnt_ins2 (c := 0) (p1 (li j)) (by rw [if_neg (by rw [pa]; decide)]) (p3 (li j))
    refine ⟨by rw [c2 T ha (Nat.le_refl _)]; exact e1, fun k hk hpk => ?_⟩
    rcases ins_cases ha hk with q | rfl | ⟨c, rfl, q1, q2⟩
    · rw [i1 k q, cnt_ins1 (p1 (li j)) k (by omega)]
      rw [p1 (li j) k q] at hpk
      exact e2 k (by omega) hpk
    · rw [pa] at hpk; cases hpk
    · rw [i3 c q1 q2, c2 c q1 (by omega)]
      rw [p3 (li j) c q1 q2] at hpk
      exact e2 c q2 hpk
  · have pa : pv ow2 tk2 (li N) a = true := by
      rw [p2, sh_iff (by omega)]
      exact ⟨hbN, fun i _ => by rw [nI_0, b_0]; rfl⟩
    rw [cnt_ins2 (c := 1) (p1 (li N)) (by rw [if_pos pa]) (p3 (li N)) T ha (Nat.le_refl _), ez]
  · have pa : pv ow2 tk2 (li N) a = true := by
      rw [p2, sh_iff (by omega)]
      exact ⟨hbN, fun i _ => by rw [nI_0, b_0]; rfl⟩
    have c2 := cnt_ins2 (c := 1) (p1 (li N)) (by rw [if_pos pa]) (p3 (li N))
    intro k hk hpk
    rcases ins_cases ha hk with q | rfl | ⟨c, rfl, q1, q2⟩
    · rw [p1 (li N) k q] at hpk
      have := cnt_lt hpk q
      rw [i1 k q, cnt_ins1 (p1 (li N)) k (by omega), h4.1 _ (by omega)]
      exact hdl k (by omega) hpk
    · rw [i2, cnt_ins1 (p1 (li N)) k (Nat.le_refl _), hi]; exact h4.2.1
    · rw [p3 (li N) c q1 q2] at hpk
      have := cnt_mono (pv ow tk (li N)) q1
      have := cnt_lt hpk q2
      rw [i3 c q1 q2, c2 c q1 (by omega), h4.2.2 _ (by omega) (by omega)]
      exact hdl c q2 hpk
  · have k1 : ∀ k, k < a → keep N ow2 k = keep N ow k := fun k hk => by unfold keep; rw [h2.1 k hk]
    have k3 : ∀ k, a ≤ k → k < T → keep N ow2 (k + 1) = keep N ow k := fun k hk hk2 => by unfold keep; rw [h2.2.2 k hk hk2]
    have ka : keep N ow2 a = false := keep_f h2.2.1
    rw [cnt_ins2 (c := 0) k1 (by rw [if_neg (by rw [ka]; decide)]) k3 T ha (Nat.le_refl _)]; exact elt
  · intro k hk
    rcases ins_cases ha hk with q | rfl | ⟨c, rfl, q1, q2⟩
    · rw [h2.1 k q, i1 k q]; exact hid k (by omega)
    · rw [h2.2.1, i2]; exact ⟨fun _ => hltT, fun _ => rfl⟩
    · rw [h2.2.2 c q1 q2, i3 c q1 q2]; exact hid c q2
theorem rel_cut (h : rc_ok N T co ow tk ba li sz mb tx mc mo Z id) (hd : rc_dd N T ow tk ba li fr lt z dl id) {k0 : Nat} {tk2 dl2 : Nat → Int32} (hk0 : k0 < T) (hp0 : pv ow tk (li N) k0 = true) (ht : tk2 k0 = tk k0 ||| cbit N ∧ ∀ j, j ≠ k0 → tk2 j = tk j)
    (hd1 : ∀ j, j < cnt (pv ow tk (li N)) k0 → dl2 j = dl j) (hd2 : ∀ j, cnt (pv ow tk (li N)) k0 ≤ j → j + 1 < z → dl2 j = dl (j + 1)) :
    rc_ok N T co ow tk2 ba li sz mb tx mc mo Z id ∧ rc_dd N T ow tk2 ba li fr lt (z - 1) dl2 id := by
  have hN := h.1.2.2
  have hbN := dd_liN h hd
  obtain ⟨hf, ez, hdl, elt, hid⟩ := hd
  have pj : ∀ j, j < N → ∀ k, k < T → pv ow tk2 (li j) k = pv ow tk (li j) k := by
    intro j hj k hk
    by_cases q : k = k0
    · subst q
      obtain ⟨o, ho, eo⟩ := h.2.2.2.2.2.1 k hk
      show sh (ow k) (tk2 k) (li j) = sh (ow k) (tk k) (li j)
      rw [eo, ht.1]
      refine sh_congr (by omega) rfl (fun i hi => ?_)
      rw [b_or, b_cbit (by omega) hi]
      by_cases r : i = N
      · subst r; rw [rc_liN h hj, Bool.and_false, Bool.and_false]
      · rw [decide_eq_false r, Bool.or_false]
    · show sh (ow k) (tk2 k) (li j) = sh (ow k) (tk k) (li j)
      rw [ht.2 k q]
  have pk0 : pv ow tk2 (li N) k0 = false := by
    obtain ⟨o, ho, eo⟩ := h.2.2.2.2.2.1 k0 hk0
    show sh (ow k0) (tk2 k0) (li N) = false
    rw [eo]
    exact sh_cut (N := N) (by omega) (by omega) (by rw [ht.1, b_or, b_cbit (by omega) (by omega), decide_eq_true rfl, Bool.or_true]) hbN
  have pN : ∀ k, k ≠ k0 → pv ow tk2 (li N) k = pv ow tk (li N) k := by
    intro k hk
    show sh (ow k) (tk2 k) (li N) = sh (ow k) (tk k) (li N)
    rw [ht.2 k hk]
  obtain ⟨cd1, cd2⟩ := cnt_del hp0 pk0 pN
  refine ⟨⟨h.1, h.2.1, h.2.2.1, h.2.2.2.1, h.2.2.2.2.1, h.2.2.2.2.2.1, fun k hk i q1 q2 => ?_, h.2.2.2.2.2.2.2.1, fun j hj => ?_⟩, ⟨hf, ?_, ?_, elt, hid⟩⟩
  · by_cases q : k = k0
    · subst q
      rw [ht.1, b_or, b_cbit (by omega) q2, h.2.2.2.2.2.2.1 k hk i q1 q2, decide_eq_false (by omega)]; rfl
    · rw [ht.2 k q]; exact h.2.2.2.2.2.2.1 k hk i q1 q2
  · obtain ⟨e1, e2⟩ := h.2.2.2.2.2.2.2.2 j hj
    refine ⟨by rw [e1]; exact (cnt_congr (pj j hj)).symm, fun k hk hpk => ?_⟩
    rw [cnt_congr (fun i hi => pj j hj i (by omega))]
    rw [pj j hj k hk] at hpk
    exact e2 k hk hpk
  · have := cd2 T hk0
    omega
  · intro k hk hpk
    have hne : k ≠ k0 := fun q => by rw [q, pk0] at hpk; cases hpk
    rw [pN k hne] at hpk
    have hlt := cnt_lt hpk hk
    rcases Nat.lt_or_ge k k0 with q | q
    · have := cnt_lt hpk q
      rw [cd1 k (by omega), hd1 _ this]; exact hdl k hk hpk
    · have e := cd2 k (by omega)
      have := cnt_lt hp0 (show k0 < k by omega)
      rw [hd2 _ (by omega) (by omega), e]; exact hdl k hk hpk
theorem rel_close (h : rc_ok N T co ow tk ba li sz mb tx mc mo Z id) (hd : rc_dd N T ow tk ba li fr lt z dl id) (hN : N < 12) (hz : z ≤ 12) {sz2 mb2 tx2 : Nat → Int32} (hs : sz2 N = nI z ∧ ∀ k, k ≠ N → sz2 k = sz k) (hb : mb2 N = fr ∧ ∀ k, k ≠ N → mb2 k = mb k) (ht : ∀ k, k < 12 * N → tx2 k = tx k) (ht2 : ∀ k, k < z → tx2 (12 * N + k) = dl k) :
    ∃ Z2 : Nat → Nat, rc_ok (N + 1) T co ow tk ba li sz2 mb2 tx2 mc mo Z2 id ∧ rc_nd (N + 1) T ow tk := by
  obtain ⟨⟨f, hf, efr, eba, eli⟩, ez, hdl, elt, hid⟩ := hd
  have hN1 := h.1.2.1
  obtain ⟨Z2, z1, z2⟩ : ∃ Z2 : Nat → Nat, Z2 N = z ∧ ∀ k, k ≠ N → Z2 k = Z k := ⟨fun k => if k = N then z else Z k, if_pos rfl, fun k hk => if_neg hk⟩
  refine ⟨Z2, ⟨⟨h.1.1, by omega, by omega⟩, fun j hj => ?_, h.2.2.1, h.2.2.2.1, h.2.2.2.2.1, fun k hk => ?_, fun k hk i q1 q2 => ?_, ⟨h.2.2.2.2.2.2.2.1.1, ?_, ?_, ?_, ?_⟩, fun j hj => ?_⟩, fun k hk => ?_⟩
  · by_cases q : j = N
    · subst q; rw [z1]; exact ⟨hs.1, hz⟩
    · rw [z2 j q, hs.2 j q]; exact h.2.1 j (by omega)
  · obtain ⟨o, ho, eo⟩ := h.2.2.2.2.2.1 k hk
    exact ⟨o, by omega, eo⟩
  · exact h.2.2.2.2.2.2.1 k hk i (by omega) q2
  · rw [hb.2 0 (by omega)]; exact h.2.2.2.2.2.2.2.1.2.1
  · intro j hj
    by_cases q : j = N
    · subst q; rw [hb.1, eba, efr]
    · rw [hb.2 j q]; exact h.2.2.2.2.2.2.2.1.2.2.1 j (by omega)
  · intro w hw hw0
    by_cases q : w = N
    · subst q; exact ⟨f, hf, by rw [hb.1, efr], eli⟩
    · rw [hb.2 w q]; exact h.2.2.2.2.2.2.2.1.2.2.2.1 w (by omega) hw0
  · intro j hj i q1 q2
    by_cases q : j = N
    · subst q
      rw [eli, b_or, b_cbit (by omega) q2, decide_eq_false (by omega), Bool.or_false]
      exact h.2.2.2.2.2.2.2.1.2.2.2.2 f hf i (by omega) q2
    · exact h.2.2.2.2.2.2.2.1.2.2.2.2 j (by omega) i q1 q2
  · by_cases q : j = N
    · subst q
      rw [z1]
      refine ⟨ez, fun k hk hpk => ?_⟩
      rw [ht2 _ (by rw [ez]; exact cnt_lt hpk hk)]; exact hdl k hk hpk
    · rw [z2 j q]
      obtain ⟨e1, e2⟩ := h.2.2.2.2.2.2.2.2 j (by omega)
      have hz2 := (h.2.1 j (by omega)).2
      refine ⟨e1, fun k hk hpk => ?_⟩
      have := cnt_lt hpk hk
      rw [ht _ (by omega)]; exact e2 k hk hpk
  · obtain ⟨o, ho, eo⟩ := h.2.2.2.2.2.1 k hk
    refine ⟨?_, h.2.2.2.2.2.2.1 k hk (N + 1) (by omega) (by omega)⟩
    rw [eo, nI_eq (by omega) (by omega)]; omega
end CHG
end
section
/-! THE PLAIN LAW, call by call: what the two answer is the same, and they stay together -/
section OPS
variable {N T : Nat} {co ow tk ba li sz mb tx mc mo : Nat → Int32} {Z id : Nat → Nat} {dr fr : Int32} {lt z : Nat} {dl : Nat → Int32}
theorem op_open (h : RelZ N T co ow tk ba li dr sz mb tx mc mo fr lt z dl Z id) {v r1 r2 dr1 dr2 fr2 : Int32} {T1 L1 lt2 z2 : Nat} {co1 ow1 tk1 ba1 li1 dl2 : Nat → Int32}
    (hx : xOpenP T co ow tk N ba li dr v r1 T1 co1 ow1 tk1 ba1 li1 dr1) (hm : mOpenP N Z tx T dr fr lt z dl v r2 L1 dr2 fr2 lt2 z2 dl2) :
    r1 = r2 ∧ L1 = T1 ∧ dr2 = dr1 ∧ Rel N T1 co1 ow1 tk1 ba1 li1 dr1 sz mb tx mc mo fr2 lt2 z2 dl2 := by
  have h0 := h
  obtain ⟨hc, hz, hlt, hh⟩ := h
  have hN := hc.1.2.2
  rcases hx with ⟨a, b, rfl, rfl, rfl, rfl, rfl, rfl, rfl⟩ | ⟨j, hj, hv, hs, hb, hl, rfl, hr⟩
  · rcases hm with ⟨a2, b2, rfl, rfl, rfl, rfl, rfl, rfl⟩ | ⟨j, hj, hv, -⟩
    · exact ⟨by rw [b, b2], rfl, rfl, Z, id, h0⟩
    · rw [hv, vOk_nI (by omega) hj] at a; cases a
  · rcases hm with ⟨a2, -⟩ | ⟨j2, hj2, hv2, hL, rfl, rfl, rfl, rfl, hd, hr2⟩
    · rw [hv, vOk_nI (by omega) hj] at a2; cases a2
    · rw [hv, nI_eq (by omega) (by omega)] at hv2
      subst hv2
      have hzj := (hc.2.1 j hj).2
      rcases hs with ⟨q, rfl, rfl, rfl, rfl⟩ | ⟨q, hs⟩
      · rcases hL with ⟨-, rfl⟩ | ⟨q2, -⟩
        · rcases hh with ⟨-, hn⟩ | ⟨q2, -⟩
          · obtain ⟨o1, o2, o3⟩ := rel_open hc hn hj hb hl hd
            exact ⟨by rw [hr, hr2, o3], rfl, rfl, Z, id, o1, hzj, hc.1.1, Or.inr ⟨by decide +kernel, o2⟩⟩
          · exact absurd q q2
        · exact absurd q q2
      · rcases hL with ⟨q2, -⟩ | ⟨-, rfl⟩
        · exact absurd q2 q
        · rcases hh with ⟨q2, -⟩ | ⟨-, hdd⟩
          · exact absurd q2 q
          · obtain ⟨eT, id2, c2, n2⟩ := rel_sweep hc hdd hs
            obtain ⟨o1, o2, o3⟩ := rel_open c2 n2 hj hb hl hd
            subst eT
            exact ⟨by rw [hr, hr2, o3], rfl, rfl, Z, id2, o1, hzj, c2.1.1, Or.inr ⟨by decide +kernel, o2⟩⟩
theorem op_put (h : RelZ N T co ow tk ba li dr sz mb tx mc mo fr lt z dl Z id) {i x r1 r2 : Int32} {T1 L1 z1 : Nat} {co1 ow1 tk1 mc1 mo1 dl1 : Nat → Int32}
    (hx : xPutP T co ow tk N li dr i x r1 T1 co1 ow1 tk1) (hm : mPutP N T mc mo dr z dl i x r2 L1 mc1 mo1 z1 dl1) :
    r1 = r2 ∧ L1 = T1 ∧ Rel N T1 co1 ow1 tk1 ba li dr sz mb tx mc1 mo1 fr lt z1 dl1 := by
  have h0 := h
  obtain ⟨hc, hz, hlt, hh⟩ := h
  have hN := hc.1.2.2
  have hT := hc.1.1
  rcases hh with ⟨q, -⟩ | ⟨q, hdd⟩
  · have bad : ∀ n, putBad dr x i n := fun n => Or.inl q
    rcases hx with ⟨-, b, rfl, rfl, rfl, rfl⟩ | ⟨nb, -⟩ | ⟨nb, -⟩
    · rcases hm with ⟨-, b2, rfl, rfl, rfl, rfl, rfl⟩ | ⟨nb, -⟩ | ⟨nb, -⟩
      · exact ⟨by rw [b, b2], rfl, Z, id, h0⟩
      · exact absurd (bad _) nb
      · exact absurd (bad _) nb
    · exact absurd (bad _) nb
    · exact absurd (bad _) nb
  · have ez := hdd.2.1
    unfold xPutP at hx
    rw [← ez] at hx
    rcases hx with ⟨bd, b, rfl, rfl, rfl, rfl⟩ | ⟨nb, fu, b, rfl, rfl, rfl, rfl⟩ | ⟨nb, f1, f2, b, rfl, a, ii, ha, hi, hii, hci, p1, p2, p3⟩
    · rcases hm with ⟨-, b2, rfl, rfl, rfl, rfl, rfl⟩ | ⟨nb, -⟩ | ⟨nb, -⟩
      · exact ⟨by rw [b, b2], rfl, Z, id, h0⟩
      · exact absurd bd nb
      · exact absurd bd nb
    · rcases hm with ⟨bd, -⟩ | ⟨-, -, b2, rfl, rfl, rfl, rfl, rfl⟩ | ⟨-, g1, g2, -⟩
      · exact absurd bd nb
      · exact ⟨by rw [b, b2], rfl, Z, id, h0⟩
      · rcases fu with fu | fu <;> omega
    · rcases hm with ⟨bd, -⟩ | ⟨-, fu, -⟩ | ⟨-, g1, g2, b2, rfl, rfl, ⟨i2, hi2, ei2, p4⟩, p5, p6⟩
      · exact absurd bd nb
      · rcases fu with fu | fu <;> omega
      · rw [hi, nI_eq (by omega) (by omega)] at ei2
        subst ei2
        have hx9 : ∃ k, k ≤ 99 ∧ x = nI k := x99 (fun q => nb (Or.inr (Or.inl q))) (fun q => nb (Or.inr (Or.inr (Or.inl q))))
        obtain ⟨id2, c2, d2⟩ := rel_put hc hdd f2 ha hci hx9 p1 p2 p3 p4 p5 p6
        exact ⟨by rw [b, b2], rfl, Z, id2, c2, by omega, hlt, Or.inr ⟨q, d2⟩⟩
theorem op_cut (h : RelZ N T co ow tk ba li dr sz mb tx mc mo fr lt z dl Z id) {i r1 r2 : Int32} {z1 : Nat} {tk1 dl1 : Nat → Int32}
    (hx : xCutP T co ow tk N li dr i r1 tk1) (hm : mCutP mc dr z dl i r2 z1 dl1) :
    r1 = r2 ∧ Rel N T co ow tk1 ba li dr sz mb tx mc mo fr lt z1 dl1 := by
  have h0 := h
  obtain ⟨hc, hz, hlt, hh⟩ := h
  have hN := hc.1.2.2
  have hT := hc.1.1
  rcases hh with ⟨q, -⟩ | ⟨q, hdd⟩
  · have bad : ∀ n, cutBad dr i n := fun n => Or.inl q
    rcases hx with ⟨-, b, rfl⟩ | ⟨nb, -⟩
    · rcases hm with ⟨-, b2, rfl, rfl⟩ | ⟨nb, -⟩
      · exact ⟨by rw [b, b2], Z, id, h0⟩
      · exact absurd (bad _) nb
    · exact absurd (bad _) nb
  · have ez := hdd.2.1
    rcases hx with ⟨bd, b, rfl⟩ | ⟨nb, k, hk, hp, hi, hr, t1, t2⟩
    · rcases hm with ⟨-, b2, rfl, rfl⟩ | ⟨nb, -⟩
      · exact ⟨by rw [b, b2], Z, id, h0⟩
      · rw [← ez] at bd; exact absurd bd nb
    · rcases hm with ⟨bd, -⟩ | ⟨-, i2, hi2, ei2, hr2, rfl, m1, m2⟩
      · rw [ez] at bd; exact absurd bd nb
      · have hcl := cnt_lt hp hk
        rw [hi, nI_eq (by omega) (by omega)] at ei2
        subst ei2
        obtain ⟨c2, d2⟩ := rel_cut hc hdd hk hp ⟨t1, t2⟩ m1 m2
        have hik := hc.2.2.1.1 k hk
        refine ⟨?_, Z, id, c2, by omega, hlt, Or.inr ⟨q, d2⟩⟩
        rw [hr, hr2, hdd.2.2.1 k hk hp, nI_clamp (by omega)]
        exact (hc.2.2.2.1 k hk).1
theorem op_close (h : RelZ N T co ow tk ba li dr sz mb tx mc mo fr lt z dl Z id) {r1 r2 dr1 dr2 : Int32} {N1 N2 : Nat} {sz1 mb1 tx1 : Nat → Int32}
    (hx : xCloseP N dr r1 N1 dr1) (hm : mCloseP N sz mb tx dr fr z dl r2 N2 sz1 mb1 tx1 dr2) :
    r1 = r2 ∧ N2 = N1 ∧ dr2 = dr1 ∧ Rel N1 T co ow tk ba li dr1 sz1 mb1 tx1 mc mo fr lt z dl := by
  have h0 := h
  obtain ⟨hc, hz, hlt, hh⟩ := h
  rcases hx with ⟨a, b, rfl, rfl⟩ | ⟨a, c, b, rfl, rfl⟩ | ⟨a, c, b, rfl, rfl⟩
  · rcases hm with ⟨-, b2, rfl, rfl, rfl, rfl, rfl⟩ | ⟨a2, -⟩ | ⟨a2, -⟩
    · exact ⟨by rw [b, b2], rfl, rfl, Z, id, h0⟩
    · exact absurd a a2
    · exact absurd a a2
  · rcases hm with ⟨a2, -⟩ | ⟨-, -, b2, rfl, rfl, rfl, rfl, rfl⟩ | ⟨-, c2, -⟩
    · exact absurd a2 a
    · exact ⟨by rw [b, b2], rfl, rfl, Z, id, h0⟩
    · omega
  · rcases hm with ⟨a2, -⟩ | ⟨-, c2, -⟩ | ⟨-, -, b2, rfl, m1, m2, m3, m4, rfl⟩
    · exact absurd a2 a
    · omega
    · rcases hh with ⟨q, -⟩ | ⟨-, hdd⟩
      · exact absurd q a
      · obtain ⟨Z2, c2, n2⟩ := rel_close hc hdd c hz m1 m2 m3 m4
        exact ⟨by rw [b, b2], rfl, rfl, Z2, id, c2, hz, hlt, Or.inl ⟨by decide +kernel, n2⟩⟩
theorem op_disc (h : RelZ N T co ow tk ba li dr sz mb tx mc mo fr lt z dl Z id) {r1 r2 dr1 dr2 : Int32} {T1 L1 : Nat} {co1 ow1 tk1 : Nat → Int32}
    (hx : xDiscP T co ow tk N dr r1 T1 co1 ow1 tk1 dr1) (hm : mDiscP T dr lt r2 L1 dr2) :
    r1 = r2 ∧ L1 = T1 ∧ dr2 = dr1 ∧ Rel N T1 co1 ow1 tk1 ba li dr1 sz mb tx mc mo fr lt z dl := by
  have h0 := h
  obtain ⟨hc, hz, hlt, hh⟩ := h
  rcases hx with ⟨a, b, rfl, rfl, rfl, rfl, rfl⟩ | ⟨a, b, hs, rfl⟩
  · rcases hm with ⟨-, b2, rfl, rfl⟩ | ⟨a2, -⟩
    · exact ⟨by rw [b, b2], rfl, rfl, Z, id, h0⟩
    · exact absurd a a2
  · rcases hm with ⟨a2, -⟩ | ⟨-, b2, rfl, rfl⟩
    · exact absurd a2 a
    · rcases hh with ⟨q, -⟩ | ⟨-, hdd⟩
      · exact absurd q a
      · obtain ⟨eT, id2, c2, n2⟩ := rel_sweep hc hdd hs
        exact ⟨by rw [b, b2], eT.symm, rfl, Z, id2, c2, hz, hlt, Or.inl ⟨by decide +kernel, n2⟩⟩
/-- two stores that were just made -/
theorem rel_new {ba li mb : Nat → Int32} (hb : ba 0 = -1) (hl : li 0 = nI 1) (hm : mb 0 = -1) : Rel 1 0 (fun _ => nI 0) (fun _ => nI 0) (fun _ => nI 0) ba li (nI 0) (fun _ => nI 0) mb (fun _ => nI 0) (fun _ => nI 0) (fun _ => nI 0) (nI 0) 0 0 (fun _ => nI 0) := by
  refine ⟨fun _ => 0, fun _ => 0, ⟨⟨by omega, by omega, by omega⟩, fun j hj => ⟨rfl, Nat.zero_le _⟩, ⟨fun k hk => absurd hk (Nat.not_lt_zero _), fun a ha => absurd ha (Nat.not_lt_zero _)⟩, fun k hk => absurd hk (Nat.not_lt_zero _), fun k hk => absurd hk (Nat.not_lt_zero _), fun k hk => absurd hk (Nat.not_lt_zero _), fun k hk => absurd hk (Nat.not_lt_zero _), ⟨hl, hm, ?_, ?_, ?_⟩, fun j hj => ⟨rfl, fun k hk => absurd hk (Nat.not_lt_zero _)⟩⟩, by omega, by omega, Or.inl ⟨nI_0, fun k hk => absurd hk (Nat.not_lt_zero _)⟩⟩
  · intro j hj
    obtain rfl : j = 0 := by omega
    rw [hb, hm]
  · intro w hw hw0
    omega
  · intro j hj i q1 q2
    obtain rfl : j = 0 := by omega
    rw [hl, b_one i q2, decide_eq_false (by omega)]
end OPS
end
section
/-! THE CLAIM OUT OF ONE WALK OF THE LAW'S BODY. Your part is whole_start (and what it stands on); all else here is the same for every law, but numbers. -/
def R_law : String := "WeaveStoreLaw"
def lw_P (b : Addr) (xs : List Int32) (args : Array Value) (s : State) : Prop := args = #[.ref b] ∧ s.IntsAt b xs ∧ xs.length ≤ 256 ∧ (Jvm.Cond.and given_1 narrow_1).before args s = true
def lw_Q (_ : Array Value) (s : State) (o : Outcome) (t : State) : Prop := o = .returned (some (.int 1)) ∧ Framed s o t [] 600000 7290000
def lw_Z (below : List Frame) (a : Array Value) (s : State) : State → Prop := fun t => ∃ o, t.status = .running ∧ Ended t below o ∧ lw_Q a s o t
/-- the law's own end, with 1 on the stack, nothing written that was there before, its room as the claim has it -/
theorem lw_ret {p : Program} {l : Launch} {e : Env} {s : State} {m : MethodId} {below : List Frame} {meth : Method} {c : Code} {b : Nat} (hx : p.tables.exec = Jvm.exec) (hb : c.code = code) (hr : meth.sig.returnType = ret) (hlocks : meth.locks = false) {pc : Nat} {H : Heap} {ls : Array Slot} (hdg : decode code pc = .ok (.ireturn, 1)) : W p l e room_1 s m #[Value.ref b] below meth c H [] 600000 7290000 (lw_Z below #[Value.ref b] s) (F0 m pc ls [.int 1]) := by
  intro T hT X
  obtain ⟨fs, hret, hrun, hended, hW, hframe⟩ := X.leave (v := some (.int 1)) (hlocks := hlocks) (fun h => by rw [hr] at h; cases h)
  have hmeth' : T.vm.method? m = some meth := X.method'
  refine ⟨T.setFrames fs, ?_, .returned (some (.int 1)), hrun, hended, rfl, ⟨_, rfl⟩, hW, hframe⟩
  jvm_step X.here [X.here.top, hx, hb, hdg, hmeth', hr, ret, narrow_b1]
  (try refine ⟨rfl, ?_⟩); (try refine ⟨rfl, ?_⟩)
  first | (intro acts; rw [hret _ acts rfl rfl rfl]) | rw [hret _ _ rfl rfl rfl]
  exact Steps.refl _
/-- what holds at the law's entry: the machine, the code, the tables' words (any of lw_tbl by 'hts w (by decide +kernel)'), the script of L ints xs at the cell b, what the Statement gives of the start (any of its parts by flat_of_before) -/
def lw_At (p : Program) (s : State) (m : MethodId) (meth : Method) (c : Code) (b L : Nat) (xs : Nat → Int32) : Prop :=
  p.tables.exec = Jvm.exec ∧ c.code = code ∧ meth.sig.returnType = ret ∧ c.maxLocals = 4 ∧ s.vm.findClass R_law = some m.cls ∧ (∀ w ∈ lw_tbl, w.before #[Value.ref b] s = true) ∧ va_X b L xs s s.heap ∧ b < s.heap.size ∧ meth.locks = false ∧ (Jvm.Cond.and given_1 narrow_1).before #[Value.ref b] s = true
end
section
/-! the law, case by case -/
section LAWB
variable {p : Program} {l : Launch} {e : Env} {R : Room} {s : State} {m : MethodId} {args : Array Value} {below : List Frame} {meth : Method} {c : Code} {H : Heap} {locs : List Loc} {cells slots : Nat} {Q : State → Prop} {cc : ByteArray} {pc : Nat} {ls : Array Slot} {rest : List Value} {A : Nat → Prop} {H0 : Heap}
theorem wz_sld (hexec : p.tables.exec = Jvm.exec) (hb : c.code = cc) {b L : Nat} {xs : Nat → Int32} (hX : va_X b L xs s H0) (hbl : b < H0.size) (hbA : ¬ A b) (hS : va_S A H0 H locs) {i : Nat} (hi : i < L) (hL : L < 2 ^ 31) (hdg : decode cc pc = .ok (.iaload, 1)) (kk : W p l e R s m args below meth c H locs cells slots Q (F0 m (pc + 1) ls (.int (xs i) :: rest))) : W p l e R s m args below meth c H locs cells slots Q (F0 m pc ls (.int (nI i) :: .ref b :: rest)) :=
  va_sld hexec hb hX hbl hbA hS (vp_in_nI hi hL) hdg (by rw [nI_clamp (Nat.lt_trans hi hL)]; exact kk)
end LAWB
set_option maxHeartbeats 4000000 in
set_option maxRecDepth 100000 in
theorem lc_open {p : Program} {l : Launch} {e : Env} {s : State} {m : MethodId} {below : List Frame} {meth : Method} {c : Code} {Q : State → Prop} {D : va_G} {b L : Nat} {xs : Nat → Int32} {h0 h1 h2 h3 h4 h5 : Nat} {d1 d2 d3 d4 d5 : ClassId} {g0 g1 g2 g3 g4 g5 g6 : Nat} {e1 e2 e3 e4 e5 e6 : ClassId} {N T : Nat} {co ow tk ba li : Nat → Int32} {dr : Int32} {sz mb tx mc mo : Nat → Int32} {fr : Int32} {lt z : Nat} {dl : Nat → Int32} {Z id : Nat → Nat} (hx : p.tables.exec = Jvm.exec) (hb : c.code = cL_law) (hml : c.maxLocals = 4) (hown : s.vm.findClass R_law = some m.cls) (hts : ∀ w ∈ lw_all, w.before #[Value.ref b] s = true) (hX : va_X b L xs s s.heap) (hbl : b < s.heap.size) (hKx : va_K D vwCl (TYX d1 d2 d3 d4 d5) s) (hKm : va_K D vwCl (TYM e1 e2 e3 e4 e5 e6) s) {i : Nat} (hi : i + 4 ≤ L) (hL : L ≤ 256) (hR : RelZ N T co ow tk ba li dr sz mb tx mc mo fr lt z dl Z id) {H : Heap} {locs : List Loc} {ls : Array Slot} (hP : va_P D vwCl ((XW h0 h1 h2 h3 h4 h5 d1 d2 d3 d4 d5 T co ow tk N ba li dr) ++ (MW g0 g1 g2 g3 g4 g5 g6 e1 e2 e3 e4 e5 e6 N sz mb tx T mc mo dr fr lt z dl)) H) (hD : va_D (fun q : Nat => s.heap.size ≤ q) ((XW h0 h1 h2 h3 h4 h5 d1 d2 d3 d4 d5 T co ow tk N ba li dr) ++ (MW g0 g1 g2 g3 g4 g5 g6 e1 e2 e3 e4 e5 e6 N sz mb tx T mc mo dr fr lt z dl))) (hS : va_S (fun q : Nat => s.heap.size ≤ q) s.heap H locs) (hl : lv_has ls 4 [(0, .ref b), (1, .ref h0), (2, .ref g0), (3, .int (nI i))]) (hk : ∀ {N T : Nat} {co ow tk ba li : Nat → Int32} {dr : Int32} {sz mb tx mc mo : Nat → Int32} {fr : Int32} {lt z : Nat} {dl : Nat → Int32}, Rel N T co ow tk ba li dr sz mb tx mc mo fr lt z dl → ∀ (H : Heap) (locs : List Loc), va_P D vwCl ((XW h0 h1 h2 h3 h4 h5 d1 d2 d3 d4 d5 T co ow tk N ba li dr) ++ (MW g0 g1 g2 g3 g4 g5 g6 e1 e2 e3 e4 e5 e6 N sz mb tx T mc mo dr fr lt z dl)) H → va_D (fun q : Nat => s.heap.size ≤ q) ((XW h0 h1 h2 h3 h4 h5 d1 d2 d3 d4 d5 T co ow tk N ba li dr) ++ (MW g0 g1 g2 g3 g4 g5 g6 e1 e2 e3 e4 e5 e6 N sz mb tx T mc mo dr fr lt z dl)) → va_S (fun q : Nat => s.heap.size ≤ q) s.heap H locs → W p l e room_1 s m #[Value.ref b] below meth c H locs 13 376 Q (F0 m 493 ls [])) : W p l e room_1 s m #[Value.ref b] below meth c H locs 13 376 Q (F0 m 108 ls []) := by
  have hc := hR.1
  have hT := hc.1.1
  have hN := hc.1.2.2
  have hz := hc.2.1
  have hz12 := hR.2.1
  have hli := hc.2.2.2.2.2.2.2.1
  have hA : ∀ q : Nat, s.heap.size ≤ q → (fun q : Nat => s.heap.size ≤ q) q := fun _ h => h
  have hbA : ¬ (fun q : Nat => s.heap.size ≤ q) b := Nat.not_le.mpr hbl
  refine lv_aload_n hx hb dL_law_108 rfl (lv_at hl 1 rfl) ?_
  refine lv_aload_n hx hb dL_law_109 rfl (lv_at hl 0 rfl) ?_
  refine lv_iload_n hx hb dL_law_110 rfl (lv_at hl 3 rfl) ?_
  refine lv_iconst (v := nI 1) hx hb dL_law_111 (by decide +kernel) ?_
  refine wz_iadd hx hb dL_law_112 ?_
  refine wz_sld hx hb hX hbl hbA hS (i := i + 1) (by omega) (by omega) dL_law_113 ?_
  refine cz_j (As := [.int (xs (i + 1))]) (rest := []) (wr := MW g0 g1 g2 g3 g4 g5 g6 e1 e2 e3 e4 e5 e6 N sz mb tx T mc mo dr fr lt z dl) ⟨hx, hb, hml, hown, hts⟩ (mX_open l D h0 h1 h2 h3 h4 h5 d1 d2 d3 d4 d5 T co ow tk N ba li dr (xs (i + 1)) hT hN (rc_co8 hc) (rc_ow8 hc) (rc_cl16 hc) (rc_li16 hc)) (cwV 1 hts (lw_V q48 q49 q50 q11 q51) rfl rfl rfl (by decide +kernel) ⟨Nat.le_of_ble_eq_true rfl, Nat.le_of_ble_eq_true rfl⟩) hP hKx hD hS hA [0, 1, 2, 3, 4, 5] [6, 7, 8, 9, 10, 11, 12] rfl rfl (by decide) (by decide) (by decide) (ci := 0) rfl rfl rfl rfl hl.1 rfl (Nat.le_of_ble_eq_true rfl) dL_law_114 ⟨Nat.le_of_ble_eq_true rfl, Nat.le_of_ble_eq_true rfl⟩ (fun r1 u H locs hr1 hP hD hS => ?_)
  obtain ⟨T1, co1, ow1, tk1, N1, ba1, li1, dr1⟩ := u
  obtain ⟨hr1, hN1⟩ : xOpenP T co ow tk N ba li dr (xs (i + 1)) r1 T1 co1 ow1 tk1 ba1 li1 dr1 ∧ N1 = N := hr1
  have hN1 := hN1.symm
  subst hN1
  have hP : va_P D vwCl ((MW g0 g1 g2 g3 g4 g5 g6 e1 e2 e3 e4 e5 e6 N sz mb tx T mc mo dr fr lt z dl) ++ (XW h0 h1 h2 h3 h4 h5 d1 d2 d3 d4 d5 T1 co1 ow1 tk1 N ba1 li1 dr1)) H := hP
  have hD : va_D (fun q : Nat => s.heap.size ≤ q) ((MW g0 g1 g2 g3 g4 g5 g6 e1 e2 e3 e4 e5 e6 N sz mb tx T mc mo dr fr lt z dl) ++ (XW h0 h1 h2 h3 h4 h5 d1 d2 d3 d4 d5 T1 co1 ow1 tk1 N ba1 li1 dr1)) := hD
  refine lv_aload_n hx hb dL_law_117 rfl (lv_at hl 2 rfl) ?_
  refine lv_aload_n hx hb dL_law_118 rfl (lv_at hl 0 rfl) ?_
  refine lv_iload_n hx hb dL_law_119 rfl (lv_at hl 3 rfl) ?_
  refine lv_iconst (v := nI 1) hx hb dL_law_120 (by decide +kernel) ?_
  refine wz_iadd hx hb dL_law_121 ?_
  refine wz_sld hx hb hX hbl hbA hS (i := i + 1) (by omega) (by omega) dL_law_122 ?_
  refine cz_j (As := [.int (xs (i + 1))]) (rest := [.int (r1)]) (wr := XW h0 h1 h2 h3 h4 h5 d1 d2 d3 d4 d5 T1 co1 ow1 tk1 N ba1 li1 dr1) ⟨hx, hb, hml, hown, hts⟩ (mM_open l D g0 g1 g2 g3 g4 g5 g6 e1 e2 e3 e4 e5 e6 N sz mb tx T mc mo dr fr lt z dl Z hN hz (xs (i + 1))) (cwV 1 hts (lw_V q180 q181 q182 q12 q183) rfl rfl rfl (by decide +kernel) ⟨Nat.le_of_ble_eq_true rfl, Nat.le_of_ble_eq_true rfl⟩) hP hKm hD hS hA [0, 1, 2, 3, 4, 5, 6] [7, 8, 9, 10, 11, 12] rfl rfl (by decide) (by decide) (by decide) (ci := 1) rfl rfl rfl rfl hl.1 rfl (Nat.le_of_ble_eq_true rfl) dL_law_123 ⟨Nat.le_of_ble_eq_true rfl, Nat.le_of_ble_eq_true rfl⟩ (fun r2 u H locs hr2 hP hD hS => ?_)
  obtain ⟨L1, dr2, fr2, lt2, z2, dl2⟩ := u
  have hr2 : mOpenP N Z tx T dr fr lt z dl (xs (i + 1)) r2 L1 dr2 fr2 lt2 z2 dl2 := hr2
  have hP : va_P D vwCl ((XW h0 h1 h2 h3 h4 h5 d1 d2 d3 d4 d5 T1 co1 ow1 tk1 N ba1 li1 dr1) ++ (MW g0 g1 g2 g3 g4 g5 g6 e1 e2 e3 e4 e5 e6 N sz mb tx L1 mc mo dr2 fr2 lt2 z2 dl2)) H := hP
  have hD : va_D (fun q : Nat => s.heap.size ≤ q) ((XW h0 h1 h2 h3 h4 h5 d1 d2 d3 d4 d5 T1 co1 ow1 tk1 N ba1 li1 dr1) ++ (MW g0 g1 g2 g3 g4 g5 g6 e1 e2 e3 e4 e5 e6 N sz mb tx L1 mc mo dr2 fr2 lt2 z2 dl2)) := hD
  obtain ⟨he, q1, q2, hR2⟩ := op_open hR hr1 hr2
  subst q1
  subst q2
  refine lv_icmp_eq (tgt := 493) hx hb dL_law_126 (by decide) (fun _ => ?_) (fun q => absurd he q)
  exact hk hR2 _ _ hP hD hS
set_option maxHeartbeats 4000000 in
set_option maxRecDepth 100000 in
theorem lc_put {p : Program} {l : Launch} {e : Env} {s : State} {m : MethodId} {below : List Frame} {meth : Method} {c : Code} {Q : State → Prop} {D : va_G} {b L : Nat} {xs : Nat → Int32} {h0 h1 h2 h3 h4 h5 : Nat} {d1 d2 d3 d4 d5 : ClassId} {g0 g1 g2 g3 g4 g5 g6 : Nat} {e1 e2 e3 e4 e5 e6 : ClassId} {N T : Nat} {co ow tk ba li : Nat → Int32} {dr : Int32} {sz mb tx mc mo : Nat → Int32} {fr : Int32} {lt z : Nat} {dl : Nat → Int32} {Z id : Nat → Nat} (hx : p.tables.exec = Jvm.exec) (hb : c.code = cL_law) (hml : c.maxLocals = 4) (hown : s.vm.findClass R_law = some m.cls) (hts : ∀ w ∈ lw_all, w.before #[Value.ref b] s = true) (hX : va_X b L xs s s.heap) (hbl : b < s.heap.size) (hKx : va_K D vwCl (TYX d1 d2 d3 d4 d5) s) (hKm : va_K D vwCl (TYM e1 e2 e3 e4 e5 e6) s) {i : Nat} (hi : i + 4 ≤ L) (hL : L ≤ 256) (hR : RelZ N T co ow tk ba li dr sz mb tx mc mo fr lt z dl Z id) {H : Heap} {locs : List Loc} {ls : Array Slot} (hP : va_P D vwCl ((XW h0 h1 h2 h3 h4 h5 d1 d2 d3 d4 d5 T co ow tk N ba li dr) ++ (MW g0 g1 g2 g3 g4 g5 g6 e1 e2 e3 e4 e5 e6 N sz mb tx T mc mo dr fr lt z dl)) H) (hD : va_D (fun q : Nat => s.heap.size ≤ q) ((XW h0 h1 h2 h3 h4 h5 d1 d2 d3 d4 d5 T co ow tk N ba li dr) ++ (MW g0 g1 g2 g3 g4 g5 g6 e1 e2 e3 e4 e5 e6 N sz mb tx T mc mo dr fr lt z dl))) (hS : va_S (fun q : Nat => s.heap.size ≤ q) s.heap H locs) (hl : lv_has ls 4 [(0, .ref b), (1, .ref h0), (2, .ref g0), (3, .int (nI i))]) (hk : ∀ {N T : Nat} {co ow tk ba li : Nat → Int32} {dr : Int32} {sz mb tx mc mo : Nat → Int32} {fr : Int32} {lt z : Nat} {dl : Nat → Int32}, Rel N T co ow tk ba li dr sz mb tx mc mo fr lt z dl → ∀ (H : Heap) (locs : List Loc), va_P D vwCl ((XW h0 h1 h2 h3 h4 h5 d1 d2 d3 d4 d5 T co ow tk N ba li dr) ++ (MW g0 g1 g2 g3 g4 g5 g6 e1 e2 e3 e4 e5 e6 N sz mb tx T mc mo dr fr lt z dl)) H → va_D (fun q : Nat => s.heap.size ≤ q) ((XW h0 h1 h2 h3 h4 h5 d1 d2 d3 d4 d5 T co ow tk N ba li dr) ++ (MW g0 g1 g2 g3 g4 g5 g6 e1 e2 e3 e4 e5 e6 N sz mb tx T mc mo dr fr lt z dl)) → va_S (fun q : Nat => s.heap.size ≤ q) s.heap H locs → W p l e room_1 s m #[Value.ref b] below meth c H locs 13 376 Q (F0 m 493 ls [])) : W p l e room_1 s m #[Value.ref b] below meth c H locs 13 376 Q (F0 m 131 ls []) := by
  have hc := hR.1
  have hT := hc.1.1
  have hN := hc.1.2.2
  have hz := hc.2.1
  have hz12 := hR.2.1
  have hli := hc.2.2.2.2.2.2.2.1
  have hA : ∀ q : Nat, s.heap.size ≤ q → (fun q : Nat => s.heap.size ≤ q) q := fun _ h => h
  have hbA : ¬ (fun q : Nat => s.heap.size ≤ q) b := Nat.not_le.mpr hbl
  refine lv_aload_n hx hb dL_law_131 rfl (lv_at hl 1 rfl) ?_
  refine lv_aload_n hx hb dL_law_132 rfl (lv_at hl 0 rfl) ?_
  refine lv_iload_n hx hb dL_law_133 rfl (lv_at hl 3 rfl) ?_
  refine lv_iconst (v := nI 1) hx hb dL_law_134 (by decide +kernel) ?_
  refine wz_iadd hx hb dL_law_135 ?_
  refine wz_sld hx hb hX hbl hbA hS (i := i + 1) (by omega) (by omega) dL_law_136 ?_
  refine lv_aload_n hx hb dL_law_137 rfl (lv_at hl 0 rfl) ?_
  refine lv_iload_n hx hb dL_law_138 rfl (lv_at hl 3 rfl) ?_
  refine lv_iconst (v := nI 2) hx hb dL_law_139 (by decide +kernel) ?_
  refine wz_iadd hx hb dL_law_140 ?_
  refine wz_sld hx hb hX hbl hbA hS (i := i + 2) (by omega) (by omega) dL_law_141 ?_
  refine cz_j (As := [.int (xs (i + 1)), .int (xs (i + 2))]) (rest := []) (wr := MW g0 g1 g2 g3 g4 g5 g6 e1 e2 e3 e4 e5 e6 N sz mb tx T mc mo dr fr lt z dl) ⟨hx, hb, hml, hown, hts⟩ (mX_put l D h0 h1 h2 h3 h4 h5 d1 d2 d3 d4 d5 T co ow tk N ba li dr (xs (i + 1)) (xs (i + 2)) hT hN (rc_co8 hc) (rc_ow8 hc) (rc_tk16 hc)) (cwV 2 hts (lw_V q68 q69 q70 q11 q71) rfl rfl rfl (by decide +kernel) ⟨Nat.le_of_ble_eq_true rfl, Nat.le_of_ble_eq_true rfl⟩) hP hKx hD hS hA [0, 1, 2, 3, 4, 5] [6, 7, 8, 9, 10, 11, 12] rfl rfl (by decide) (by decide) (by decide) (ci := 0) rfl rfl rfl rfl hl.1 rfl (Nat.le_of_ble_eq_true rfl) dL_law_142 ⟨Nat.le_of_ble_eq_true rfl, Nat.le_of_ble_eq_true rfl⟩ (fun r1 u H locs hr1 hP hD hS => ?_)
  obtain ⟨T1, co1, ow1, tk1⟩ := u
  have hr1 : xPutP T co ow tk N li dr (xs (i + 1)) (xs (i + 2)) r1 T1 co1 ow1 tk1 := hr1
  have hP : va_P D vwCl ((MW g0 g1 g2 g3 g4 g5 g6 e1 e2 e3 e4 e5 e6 N sz mb tx T mc mo dr fr lt z dl) ++ (XW h0 h1 h2 h3 h4 h5 d1 d2 d3 d4 d5 T1 co1 ow1 tk1 N ba li dr)) H := hP
  have hD : va_D (fun q : Nat => s.heap.size ≤ q) ((MW g0 g1 g2 g3 g4 g5 g6 e1 e2 e3 e4 e5 e6 N sz mb tx T mc mo dr fr lt z dl) ++ (XW h0 h1 h2 h3 h4 h5 d1 d2 d3 d4 d5 T1 co1 ow1 tk1 N ba li dr)) := hD
  refine lv_aload_n hx hb dL_law_145 rfl (lv_at hl 2 rfl) ?_
  refine lv_aload_n hx hb dL_law_146 rfl (lv_at hl 0 rfl) ?_
  refine lv_iload_n hx hb dL_law_147 rfl (lv_at hl 3 rfl) ?_
  refine lv_iconst (v := nI 1) hx hb dL_law_148 (by decide +kernel) ?_
  refine wz_iadd hx hb dL_law_149 ?_
  refine wz_sld hx hb hX hbl hbA hS (i := i + 1) (by omega) (by omega) dL_law_150 ?_
  refine lv_aload_n hx hb dL_law_151 rfl (lv_at hl 0 rfl) ?_
  refine lv_iload_n hx hb dL_law_152 rfl (lv_at hl 3 rfl) ?_
  refine lv_iconst (v := nI 2) hx hb dL_law_153 (by decide +kernel) ?_
  refine wz_iadd hx hb dL_law_154 ?_
  refine wz_sld hx hb hX hbl hbA hS (i := i + 2) (by omega) (by omega) dL_law_155 ?_
  refine cz_j (As := [.int (xs (i + 1)), .int (xs (i + 2))]) (rest := [.int (r1)]) (wr := XW h0 h1 h2 h3 h4 h5 d1 d2 d3 d4 d5 T1 co1 ow1 tk1 N ba li dr) ⟨hx, hb, hml, hown, hts⟩ (mM_put l D g0 g1 g2 g3 g4 g5 g6 e1 e2 e3 e4 e5 e6 N sz mb tx T mc mo dr fr lt z dl hN hT hz12 (xs (i + 1)) (xs (i + 2))) (cwV 2 hts (lw_V q192 q193 q194 q12 q195) rfl rfl rfl (by decide +kernel) ⟨Nat.le_of_ble_eq_true rfl, Nat.le_of_ble_eq_true rfl⟩) hP hKm hD hS hA [0, 1, 2, 3, 4, 5, 6] [7, 8, 9, 10, 11, 12] rfl rfl (by decide) (by decide) (by decide) (ci := 1) rfl rfl rfl rfl hl.1 rfl (Nat.le_of_ble_eq_true rfl) dL_law_156 ⟨Nat.le_of_ble_eq_true rfl, Nat.le_of_ble_eq_true rfl⟩ (fun r2 u H locs hr2 hP hD hS => ?_)
  obtain ⟨L1, mc1, mo1, z1, dl1⟩ := u
  have hr2 : mPutP N T mc mo dr z dl (xs (i + 1)) (xs (i + 2)) r2 L1 mc1 mo1 z1 dl1 := hr2
  have hP : va_P D vwCl ((XW h0 h1 h2 h3 h4 h5 d1 d2 d3 d4 d5 T1 co1 ow1 tk1 N ba li dr) ++ (MW g0 g1 g2 g3 g4 g5 g6 e1 e2 e3 e4 e5 e6 N sz mb tx L1 mc1 mo1 dr fr lt z1 dl1)) H := hP
  have hD : va_D (fun q : Nat => s.heap.size ≤ q) ((XW h0 h1 h2 h3 h4 h5 d1 d2 d3 d4 d5 T1 co1 ow1 tk1 N ba li dr) ++ (MW g0 g1 g2 g3 g4 g5 g6 e1 e2 e3 e4 e5 e6 N sz mb tx L1 mc1 mo1 dr fr lt z1 dl1)) := hD
  obtain ⟨he, q1, hR2⟩ := op_put hR hr1 hr2
  subst q1
  refine lv_icmp_eq (tgt := 493) hx hb dL_law_159 (by decide) (fun _ => ?_) (fun q => absurd he q)
  exact hk hR2 _ _ hP hD hS
set_option maxHeartbeats 4000000 in
set_option maxRecDepth 100000 in
theorem lc_cut {p : Program} {l : Launch} {e : Env} {s : State} {m : MethodId} {below : List Frame} {meth : Method} {c : Code} {Q : State → Prop} {D : va_G} {b L : Nat} {xs : Nat → Int32} {h0 h1 h2 h3 h4 h5 : Nat} {d1 d2 d3 d4 d5 : ClassId} {g0 g1 g2 g3 g4 g5 g6 : Nat} {e1 e2 e3 e4 e5 e6 : ClassId} {N T : Nat} {co ow tk ba li : Nat → Int32} {dr : Int32} {sz mb tx mc mo : Nat → Int32} {fr : Int32} {lt z : Nat} {dl : Nat → Int32} {Z id : Nat → Nat} (hx : p.tables.exec = Jvm.exec) (hb : c.code = cL_law) (hml : c.maxLocals = 4) (hown : s.vm.findClass R_law = some m.cls) (hts : ∀ w ∈ lw_all, w.before #[Value.ref b] s = true) (hX : va_X b L xs s s.heap) (hbl : b < s.heap.size) (hKx : va_K D vwCl (TYX d1 d2 d3 d4 d5) s) (hKm : va_K D vwCl (TYM e1 e2 e3 e4 e5 e6) s) {i : Nat} (hi : i + 4 ≤ L) (hL : L ≤ 256) (hR : RelZ N T co ow tk ba li dr sz mb tx mc mo fr lt z dl Z id) {H : Heap} {locs : List Loc} {ls : Array Slot} (hP : va_P D vwCl ((XW h0 h1 h2 h3 h4 h5 d1 d2 d3 d4 d5 T co ow tk N ba li dr) ++ (MW g0 g1 g2 g3 g4 g5 g6 e1 e2 e3 e4 e5 e6 N sz mb tx T mc mo dr fr lt z dl)) H) (hD : va_D (fun q : Nat => s.heap.size ≤ q) ((XW h0 h1 h2 h3 h4 h5 d1 d2 d3 d4 d5 T co ow tk N ba li dr) ++ (MW g0 g1 g2 g3 g4 g5 g6 e1 e2 e3 e4 e5 e6 N sz mb tx T mc mo dr fr lt z dl))) (hS : va_S (fun q : Nat => s.heap.size ≤ q) s.heap H locs) (hl : lv_has ls 4 [(0, .ref b), (1, .ref h0), (2, .ref g0), (3, .int (nI i))]) (hk : ∀ {N T : Nat} {co ow tk ba li : Nat → Int32} {dr : Int32} {sz mb tx mc mo : Nat → Int32} {fr : Int32} {lt z : Nat} {dl : Nat → Int32}, Rel N T co ow tk ba li dr sz mb tx mc mo fr lt z dl → ∀ (H : Heap) (locs : List Loc), va_P D vwCl ((XW h0 h1 h2 h3 h4 h5 d1 d2 d3 d4 d5 T co ow tk N ba li dr) ++ (MW g0 g1 g2 g3 g4 g5 g6 e1 e2 e3 e4 e5 e6 N sz mb tx T mc mo dr fr lt z dl)) H → va_D (fun q : Nat => s.heap.size ≤ q) ((XW h0 h1 h2 h3 h4 h5 d1 d2 d3 d4 d5 T co ow tk N ba li dr) ++ (MW g0 g1 g2 g3 g4 g5 g6 e1 e2 e3 e4 e5 e6 N sz mb tx T mc mo dr fr lt z dl)) → va_S (fun q : Nat => s.heap.size ≤ q) s.heap H locs → W p l e room_1 s m #[Value.ref b] below meth c H locs 13 376 Q (F0 m 493 ls [])) : W p l e room_1 s m #[Value.ref b] below meth c H locs 13 376 Q (F0 m 164 ls []) := by
  have hc := hR.1
  have hT := hc.1.1
  have hN := hc.1.2.2
  have hz := hc.2.1
  have hz12 := hR.2.1
  have hli := hc.2.2.2.2.2.2.2.1
  have hA : ∀ q : Nat, s.heap.size ≤ q → (fun q : Nat => s.heap.size ≤ q) q := fun _ h => h
  have hbA : ¬ (fun q : Nat => s.heap.size ≤ q) b := Nat.not_le.mpr hbl
  refine lv_aload_n hx hb dL_law_164 rfl (lv_at hl 1 rfl) ?_
  refine lv_aload_n hx hb dL_law_165 rfl (lv_at hl 0 rfl) ?_
  refine lv_iload_n hx hb dL_law_166 rfl (lv_at hl 3 rfl) ?_
  refine lv_iconst (v := nI 1) hx hb dL_law_167 (by decide +kernel) ?_
  refine wz_iadd hx hb dL_law_168 ?_
  refine wz_sld hx hb hX hbl hbA hS (i := i + 1) (by omega) (by omega) dL_law_169 ?_
  refine cz_j (As := [.int (xs (i + 1))]) (rest := []) (wr := MW g0 g1 g2 g3 g4 g5 g6 e1 e2 e3 e4 e5 e6 N sz mb tx T mc mo dr fr lt z dl) ⟨hx, hb, hml, hown, hts⟩ (mX_cut l D h0 h1 h2 h3 h4 h5 d1 d2 d3 d4 d5 T co ow tk N ba li dr (xs (i + 1)) hT hN (rc_tn16 hc)) (cwV 1 hts (lw_V q80 q81 q82 q11 q83) rfl rfl rfl (by decide +kernel) ⟨Nat.le_of_ble_eq_true rfl, Nat.le_of_ble_eq_true rfl⟩) hP hKx hD hS hA [0, 1, 2, 3, 4, 5] [6, 7, 8, 9, 10, 11, 12] rfl rfl (by decide) (by decide) (by decide) (ci := 0) rfl rfl rfl rfl hl.1 rfl (Nat.le_of_ble_eq_true rfl) dL_law_170 ⟨Nat.le_of_ble_eq_true rfl, Nat.le_of_ble_eq_true rfl⟩ (fun r1 u H locs hr1 hP hD hS => ?_)
  have hr1 : xCutP T co ow tk N li dr (xs (i + 1)) r1 u := hr1
  generalize u = tk1 at hr1 hP hD
  have hP : va_P D vwCl ((MW g0 g1 g2 g3 g4 g5 g6 e1 e2 e3 e4 e5 e6 N sz mb tx T mc mo dr fr lt z dl) ++ (XW h0 h1 h2 h3 h4 h5 d1 d2 d3 d4 d5 T co ow tk1 N ba li dr)) H := hP
  have hD : va_D (fun q : Nat => s.heap.size ≤ q) ((MW g0 g1 g2 g3 g4 g5 g6 e1 e2 e3 e4 e5 e6 N sz mb tx T mc mo dr fr lt z dl) ++ (XW h0 h1 h2 h3 h4 h5 d1 d2 d3 d4 d5 T co ow tk1 N ba li dr)) := hD
  refine lv_aload_n hx hb dL_law_173 rfl (lv_at hl 2 rfl) ?_
  refine lv_aload_n hx hb dL_law_174 rfl (lv_at hl 0 rfl) ?_
  refine lv_iload_n hx hb dL_law_175 rfl (lv_at hl 3 rfl) ?_
  refine lv_iconst (v := nI 1) hx hb dL_law_176 (by decide +kernel) ?_
  refine wz_iadd hx hb dL_law_177 ?_
  refine wz_sld hx hb hX hbl hbA hS (i := i + 1) (by omega) (by omega) dL_law_178 ?_
  refine cz_j (As := [.int (xs (i + 1))]) (rest := [.int (r1)]) (wr := XW h0 h1 h2 h3 h4 h5 d1 d2 d3 d4 d5 T co ow tk1 N ba li dr) ⟨hx, hb, hml, hown, hts⟩ (mM_cut l D g0 g1 g2 g3 g4 g5 g6 e1 e2 e3 e4 e5 e6 N sz mb tx T mc mo dr fr lt z dl hz12 (rc_dl30 hR) (xs (i + 1))) (cwV 1 hts (lw_V q196 q197 q198 q12 q199) rfl rfl rfl (by decide +kernel) ⟨Nat.le_of_ble_eq_true rfl, Nat.le_of_ble_eq_true rfl⟩) hP hKm hD hS hA [0, 1, 2, 3, 4, 5, 6] [7, 8, 9, 10, 11, 12] rfl rfl (by decide) (by decide) (by decide) (ci := 1) rfl rfl rfl rfl hl.1 rfl (Nat.le_of_ble_eq_true rfl) dL_law_179 ⟨Nat.le_of_ble_eq_true rfl, Nat.le_of_ble_eq_true rfl⟩ (fun r2 u H locs hr2 hP hD hS => ?_)
  obtain ⟨z1, dl1⟩ := u
  have hr2 : mCutP mc dr z dl (xs (i + 1)) r2 z1 dl1 := hr2
  have hP : va_P D vwCl ((XW h0 h1 h2 h3 h4 h5 d1 d2 d3 d4 d5 T co ow tk1 N ba li dr) ++ (MW g0 g1 g2 g3 g4 g5 g6 e1 e2 e3 e4 e5 e6 N sz mb tx T mc mo dr fr lt z1 dl1)) H := hP
  have hD : va_D (fun q : Nat => s.heap.size ≤ q) ((XW h0 h1 h2 h3 h4 h5 d1 d2 d3 d4 d5 T co ow tk1 N ba li dr) ++ (MW g0 g1 g2 g3 g4 g5 g6 e1 e2 e3 e4 e5 e6 N sz mb tx T mc mo dr fr lt z1 dl1)) := hD
  obtain ⟨he, hR2⟩ := op_cut hR hr1 hr2
  refine lv_icmp_eq (tgt := 493) hx hb dL_law_182 (by decide) (fun _ => ?_) (fun q => absurd he q)
  exact hk hR2 _ _ hP hD hS
set_option maxHeartbeats 4000000 in
set_option maxRecDepth 100000 in
theorem lc_close {p : Program} {l : Launch} {e : Env} {s : State} {m : MethodId} {below : List Frame} {meth : Method} {c : Code} {Q : State → Prop} {D : va_G} {b L : Nat} {xs : Nat → Int32} {h0 h1 h2 h3 h4 h5 : Nat} {d1 d2 d3 d4 d5 : ClassId} {g0 g1 g2 g3 g4 g5 g6 : Nat} {e1 e2 e3 e4 e5 e6 : ClassId} {N T : Nat} {co ow tk ba li : Nat → Int32} {dr : Int32} {sz mb tx mc mo : Nat → Int32} {fr : Int32} {lt z : Nat} {dl : Nat → Int32} {Z id : Nat → Nat} (hx : p.tables.exec = Jvm.exec) (hb : c.code = cL_law) (hml : c.maxLocals = 4) (hown : s.vm.findClass R_law = some m.cls) (hts : ∀ w ∈ lw_all, w.before #[Value.ref b] s = true) (hX : va_X b L xs s s.heap) (hbl : b < s.heap.size) (hKx : va_K D vwCl (TYX d1 d2 d3 d4 d5) s) (hKm : va_K D vwCl (TYM e1 e2 e3 e4 e5 e6) s) {i : Nat} (hi : i + 4 ≤ L) (hL : L ≤ 256) (hR : RelZ N T co ow tk ba li dr sz mb tx mc mo fr lt z dl Z id) {H : Heap} {locs : List Loc} {ls : Array Slot} (hP : va_P D vwCl ((XW h0 h1 h2 h3 h4 h5 d1 d2 d3 d4 d5 T co ow tk N ba li dr) ++ (MW g0 g1 g2 g3 g4 g5 g6 e1 e2 e3 e4 e5 e6 N sz mb tx T mc mo dr fr lt z dl)) H) (hD : va_D (fun q : Nat => s.heap.size ≤ q) ((XW h0 h1 h2 h3 h4 h5 d1 d2 d3 d4 d5 T co ow tk N ba li dr) ++ (MW g0 g1 g2 g3 g4 g5 g6 e1 e2 e3 e4 e5 e6 N sz mb tx T mc mo dr fr lt z dl))) (hS : va_S (fun q : Nat => s.heap.size ≤ q) s.heap H locs) (hl : lv_has ls 4 [(0, .ref b), (1, .ref h0), (2, .ref g0), (3, .int (nI i))]) (hk : ∀ {N T : Nat} {co ow tk ba li : Nat → Int32} {dr : Int32} {sz mb tx mc mo : Nat → Int32} {fr : Int32} {lt z : Nat} {dl : Nat → Int32}, Rel N T co ow tk ba li dr sz mb tx mc mo fr lt z dl → ∀ (H : Heap) (locs : List Loc), va_P D vwCl ((XW h0 h1 h2 h3 h4 h5 d1 d2 d3 d4 d5 T co ow tk N ba li dr) ++ (MW g0 g1 g2 g3 g4 g5 g6 e1 e2 e3 e4 e5 e6 N sz mb tx T mc mo dr fr lt z dl)) H → va_D (fun q : Nat => s.heap.size ≤ q) ((XW h0 h1 h2 h3 h4 h5 d1 d2 d3 d4 d5 T co ow tk N ba li dr) ++ (MW g0 g1 g2 g3 g4 g5 g6 e1 e2 e3 e4 e5 e6 N sz mb tx T mc mo dr fr lt z dl)) → va_S (fun q : Nat => s.heap.size ≤ q) s.heap H locs → W p l e room_1 s m #[Value.ref b] below meth c H locs 13 376 Q (F0 m 493 ls [])) : W p l e room_1 s m #[Value.ref b] below meth c H locs 13 376 Q (F0 m 187 ls []) := by
  have hc := hR.1
  have hT := hc.1.1
  have hN := hc.1.2.2
  have hz := hc.2.1
  have hz12 := hR.2.1
  have hli := hc.2.2.2.2.2.2.2.1
  have hA : ∀ q : Nat, s.heap.size ≤ q → (fun q : Nat => s.heap.size ≤ q) q := fun _ h => h
  have hbA : ¬ (fun q : Nat => s.heap.size ≤ q) b := Nat.not_le.mpr hbl
  refine lv_aload_n hx hb dL_law_187 rfl (lv_at hl 1 rfl) ?_
  refine cz_j (As := []) (rest := []) (wr := MW g0 g1 g2 g3 g4 g5 g6 e1 e2 e3 e4 e5 e6 N sz mb tx T mc mo dr fr lt z dl) ⟨hx, hb, hml, hown, hts⟩ (mX_close l D h0 h1 h2 h3 h4 h5 d1 d2 d3 d4 d5 T co ow tk N ba li dr  hN) (cwV 0 hts (lw_V q84 q85 q86 q11 q87) rfl rfl rfl (by decide +kernel) ⟨Nat.le_of_ble_eq_true rfl, Nat.le_of_ble_eq_true rfl⟩) hP hKx hD hS hA [0, 1, 2, 3, 4, 5] [6, 7, 8, 9, 10, 11, 12] rfl rfl (by decide) (by decide) (by decide) (ci := 0) rfl rfl rfl rfl hl.1 rfl (Nat.le_of_ble_eq_true rfl) dL_law_188 ⟨Nat.le_of_ble_eq_true rfl, Nat.le_of_ble_eq_true rfl⟩ (fun r1 u H locs hr1 hP hD hS => ?_)
  obtain ⟨N1, dr1⟩ := u
  have hr1 : xCloseP N dr r1 N1 dr1 := hr1
  have hP : va_P D vwCl ((MW g0 g1 g2 g3 g4 g5 g6 e1 e2 e3 e4 e5 e6 N sz mb tx T mc mo dr fr lt z dl) ++ (XW h0 h1 h2 h3 h4 h5 d1 d2 d3 d4 d5 T co ow tk N1 ba li dr1)) H := hP
  have hD : va_D (fun q : Nat => s.heap.size ≤ q) ((MW g0 g1 g2 g3 g4 g5 g6 e1 e2 e3 e4 e5 e6 N sz mb tx T mc mo dr fr lt z dl) ++ (XW h0 h1 h2 h3 h4 h5 d1 d2 d3 d4 d5 T co ow tk N1 ba li dr1)) := hD
  refine lv_aload_n hx hb dL_law_191 rfl (lv_at hl 2 rfl) ?_
  refine cz_j (As := []) (rest := [.int (r1)]) (wr := XW h0 h1 h2 h3 h4 h5 d1 d2 d3 d4 d5 T co ow tk N1 ba li dr1) ⟨hx, hb, hml, hown, hts⟩ (mM_close l D g0 g1 g2 g3 g4 g5 g6 e1 e2 e3 e4 e5 e6 N sz mb tx T mc mo dr fr lt z dl hN hz12) (cwV 0 hts (lw_V q200 q201 q202 q12 q203) rfl rfl rfl (by decide +kernel) ⟨Nat.le_of_ble_eq_true rfl, Nat.le_of_ble_eq_true rfl⟩) hP hKm hD hS hA [0, 1, 2, 3, 4, 5, 6] [7, 8, 9, 10, 11, 12] rfl rfl (by decide) (by decide) (by decide) (ci := 1) rfl rfl rfl rfl hl.1 rfl (Nat.le_of_ble_eq_true rfl) dL_law_192 ⟨Nat.le_of_ble_eq_true rfl, Nat.le_of_ble_eq_true rfl⟩ (fun r2 u H locs hr2 hP hD hS => ?_)
  obtain ⟨N2, sz1, mb1, tx1, dr2⟩ := u
  have hr2 : mCloseP N sz mb tx dr fr z dl r2 N2 sz1 mb1 tx1 dr2 := hr2
  have hP : va_P D vwCl ((XW h0 h1 h2 h3 h4 h5 d1 d2 d3 d4 d5 T co ow tk N1 ba li dr1) ++ (MW g0 g1 g2 g3 g4 g5 g6 e1 e2 e3 e4 e5 e6 N2 sz1 mb1 tx1 T mc mo dr2 fr lt z dl)) H := hP
  have hD : va_D (fun q : Nat => s.heap.size ≤ q) ((XW h0 h1 h2 h3 h4 h5 d1 d2 d3 d4 d5 T co ow tk N1 ba li dr1) ++ (MW g0 g1 g2 g3 g4 g5 g6 e1 e2 e3 e4 e5 e6 N2 sz1 mb1 tx1 T mc mo dr2 fr lt z dl)) := hD
  obtain ⟨he, q1, q2, hR2⟩ := op_close hR hr1 hr2
  subst q1
  subst q2
  refine lv_icmp_eq (tgt := 493) hx hb dL_law_195 (by decide) (fun _ => ?_) (fun q => absurd he q)
  exact hk hR2 _ _ hP hD hS
set_option maxHeartbeats 4000000 in
set_option maxRecDepth 100000 in
theorem lc_discard {p : Program} {l : Launch} {e : Env} {s : State} {m : MethodId} {below : List Frame} {meth : Method} {c : Code} {Q : State → Prop} {D : va_G} {b L : Nat} {xs : Nat → Int32} {h0 h1 h2 h3 h4 h5 : Nat} {d1 d2 d3 d4 d5 : ClassId} {g0 g1 g2 g3 g4 g5 g6 : Nat} {e1 e2 e3 e4 e5 e6 : ClassId} {N T : Nat} {co ow tk ba li : Nat → Int32} {dr : Int32} {sz mb tx mc mo : Nat → Int32} {fr : Int32} {lt z : Nat} {dl : Nat → Int32} {Z id : Nat → Nat} (hx : p.tables.exec = Jvm.exec) (hb : c.code = cL_law) (hml : c.maxLocals = 4) (hown : s.vm.findClass R_law = some m.cls) (hts : ∀ w ∈ lw_all, w.before #[Value.ref b] s = true) (hX : va_X b L xs s s.heap) (hbl : b < s.heap.size) (hKx : va_K D vwCl (TYX d1 d2 d3 d4 d5) s) (hKm : va_K D vwCl (TYM e1 e2 e3 e4 e5 e6) s) {i : Nat} (hi : i + 4 ≤ L) (hL : L ≤ 256) (hR : RelZ N T co ow tk ba li dr sz mb tx mc mo fr lt z dl Z id) {H : Heap} {locs : List Loc} {ls : Array Slot} (hP : va_P D vwCl ((XW h0 h1 h2 h3 h4 h5 d1 d2 d3 d4 d5 T co ow tk N ba li dr) ++ (MW g0 g1 g2 g3 g4 g5 g6 e1 e2 e3 e4 e5 e6 N sz mb tx T mc mo dr fr lt z dl)) H) (hD : va_D (fun q : Nat => s.heap.size ≤ q) ((XW h0 h1 h2 h3 h4 h5 d1 d2 d3 d4 d5 T co ow tk N ba li dr) ++ (MW g0 g1 g2 g3 g4 g5 g6 e1 e2 e3 e4 e5 e6 N sz mb tx T mc mo dr fr lt z dl))) (hS : va_S (fun q : Nat => s.heap.size ≤ q) s.heap H locs) (hl : lv_has ls 4 [(0, .ref b), (1, .ref h0), (2, .ref g0), (3, .int (nI i))]) (hk : ∀ {N T : Nat} {co ow tk ba li : Nat → Int32} {dr : Int32} {sz mb tx mc mo : Nat → Int32} {fr : Int32} {lt z : Nat} {dl : Nat → Int32}, Rel N T co ow tk ba li dr sz mb tx mc mo fr lt z dl → ∀ (H : Heap) (locs : List Loc), va_P D vwCl ((XW h0 h1 h2 h3 h4 h5 d1 d2 d3 d4 d5 T co ow tk N ba li dr) ++ (MW g0 g1 g2 g3 g4 g5 g6 e1 e2 e3 e4 e5 e6 N sz mb tx T mc mo dr fr lt z dl)) H → va_D (fun q : Nat => s.heap.size ≤ q) ((XW h0 h1 h2 h3 h4 h5 d1 d2 d3 d4 d5 T co ow tk N ba li dr) ++ (MW g0 g1 g2 g3 g4 g5 g6 e1 e2 e3 e4 e5 e6 N sz mb tx T mc mo dr fr lt z dl)) → va_S (fun q : Nat => s.heap.size ≤ q) s.heap H locs → W p l e room_1 s m #[Value.ref b] below meth c H locs 13 376 Q (F0 m 493 ls [])) : W p l e room_1 s m #[Value.ref b] below meth c H locs 13 376 Q (F0 m 200 ls []) := by
  have hc := hR.1
  have hT := hc.1.1
  have hN := hc.1.2.2
  have hz := hc.2.1
  have hz12 := hR.2.1
  have hli := hc.2.2.2.2.2.2.2.1
  have hA : ∀ q : Nat, s.heap.size ≤ q → (fun q : Nat => s.heap.size ≤ q) q := fun _ h => h
  have hbA : ¬ (fun q : Nat => s.heap.size ≤ q) b := Nat.not_le.mpr hbl
  refine lv_aload_n hx hb dL_law_200 rfl (lv_at hl 1 rfl) ?_
  refine cz_j (As := []) (rest := []) (wr := MW g0 g1 g2 g3 g4 g5 g6 e1 e2 e3 e4 e5 e6 N sz mb tx T mc mo dr fr lt z dl) ⟨hx, hb, hml, hown, hts⟩ (mX_discard l D h0 h1 h2 h3 h4 h5 d1 d2 d3 d4 d5 T co ow tk N ba li dr  hT (rc_co8 hc) (rc_ow8 hc) (rc_cl16 hc)) (cwV 0 hts (lw_V q88 q89 q90 q11 q91) rfl rfl rfl (by decide +kernel) ⟨Nat.le_of_ble_eq_true rfl, Nat.le_of_ble_eq_true rfl⟩) hP hKx hD hS hA [0, 1, 2, 3, 4, 5] [6, 7, 8, 9, 10, 11, 12] rfl rfl (by decide) (by decide) (by decide) (ci := 0) rfl rfl rfl rfl hl.1 rfl (Nat.le_of_ble_eq_true rfl) dL_law_201 ⟨Nat.le_of_ble_eq_true rfl, Nat.le_of_ble_eq_true rfl⟩ (fun r1 u H locs hr1 hP hD hS => ?_)
  obtain ⟨T1, co1, ow1, tk1, dr1⟩ := u
  have hr1 : xDiscP T co ow tk N dr r1 T1 co1 ow1 tk1 dr1 := hr1
  have hP : va_P D vwCl ((MW g0 g1 g2 g3 g4 g5 g6 e1 e2 e3 e4 e5 e6 N sz mb tx T mc mo dr fr lt z dl) ++ (XW h0 h1 h2 h3 h4 h5 d1 d2 d3 d4 d5 T1 co1 ow1 tk1 N ba li dr1)) H := hP
  have hD : va_D (fun q : Nat => s.heap.size ≤ q) ((MW g0 g1 g2 g3 g4 g5 g6 e1 e2 e3 e4 e5 e6 N sz mb tx T mc mo dr fr lt z dl) ++ (XW h0 h1 h2 h3 h4 h5 d1 d2 d3 d4 d5 T1 co1 ow1 tk1 N ba li dr1)) := hD
  refine lv_aload_n hx hb dL_law_204 rfl (lv_at hl 2 rfl) ?_
  refine cz_j (As := []) (rest := [.int (r1)]) (wr := XW h0 h1 h2 h3 h4 h5 d1 d2 d3 d4 d5 T1 co1 ow1 tk1 N ba li dr1) ⟨hx, hb, hml, hown, hts⟩ (mM_discard l D g0 g1 g2 g3 g4 g5 g6 e1 e2 e3 e4 e5 e6 N sz mb tx T mc mo dr fr lt z dl ) (cwV 0 hts (lw_V q204 q189 q190 q12 q191) rfl rfl rfl (by decide +kernel) ⟨Nat.le_of_ble_eq_true rfl, Nat.le_of_ble_eq_true rfl⟩) hP hKm hD hS hA [0, 1, 2, 3, 4, 5, 6] [7, 8, 9, 10, 11, 12] rfl rfl (by decide) (by decide) (by decide) (ci := 1) rfl rfl rfl rfl hl.1 rfl (Nat.le_of_ble_eq_true rfl) dL_law_205 ⟨Nat.le_of_ble_eq_true rfl, Nat.le_of_ble_eq_true rfl⟩ (fun r2 u H locs hr2 hP hD hS => ?_)
  obtain ⟨L1, dr2⟩ := u
  have hr2 : mDiscP T dr lt r2 L1 dr2 := hr2
  have hP : va_P D vwCl ((XW h0 h1 h2 h3 h4 h5 d1 d2 d3 d4 d5 T1 co1 ow1 tk1 N ba li dr1) ++ (MW g0 g1 g2 g3 g4 g5 g6 e1 e2 e3 e4 e5 e6 N sz mb tx L1 mc mo dr2 fr lt z dl)) H := hP
  have hD : va_D (fun q : Nat => s.heap.size ≤ q) ((XW h0 h1 h2 h3 h4 h5 d1 d2 d3 d4 d5 T1 co1 ow1 tk1 N ba li dr1) ++ (MW g0 g1 g2 g3 g4 g5 g6 e1 e2 e3 e4 e5 e6 N sz mb tx L1 mc mo dr2 fr lt z dl)) := hD
  obtain ⟨he, q1, q2, hR2⟩ := op_disc hR hr1 hr2
  subst q1
  subst q2
  refine lv_icmp_eq (tgt := 493) hx hb dL_law_208 (by decide) (fun _ => ?_) (fun q => absurd he q)
  exact hk hR2 _ _ hP hD hS
set_option maxHeartbeats 4000000 in
set_option maxRecDepth 100000 in
theorem lc_versions {p : Program} {l : Launch} {e : Env} {s : State} {m : MethodId} {below : List Frame} {meth : Method} {c : Code} {Q : State → Prop} {D : va_G} {b L : Nat} {xs : Nat → Int32} {h0 h1 h2 h3 h4 h5 : Nat} {d1 d2 d3 d4 d5 : ClassId} {g0 g1 g2 g3 g4 g5 g6 : Nat} {e1 e2 e3 e4 e5 e6 : ClassId} {N T : Nat} {co ow tk ba li : Nat → Int32} {dr : Int32} {sz mb tx mc mo : Nat → Int32} {fr : Int32} {lt z : Nat} {dl : Nat → Int32} {Z id : Nat → Nat} (hx : p.tables.exec = Jvm.exec) (hb : c.code = cL_law) (hml : c.maxLocals = 4) (hown : s.vm.findClass R_law = some m.cls) (hts : ∀ w ∈ lw_all, w.before #[Value.ref b] s = true) (hX : va_X b L xs s s.heap) (hbl : b < s.heap.size) (hKx : va_K D vwCl (TYX d1 d2 d3 d4 d5) s) (hKm : va_K D vwCl (TYM e1 e2 e3 e4 e5 e6) s) {i : Nat} (hi : i + 4 ≤ L) (hL : L ≤ 256) (hR : RelZ N T co ow tk ba li dr sz mb tx mc mo fr lt z dl Z id) {H : Heap} {locs : List Loc} {ls : Array Slot} (hP : va_P D vwCl ((XW h0 h1 h2 h3 h4 h5 d1 d2 d3 d4 d5 T co ow tk N ba li dr) ++ (MW g0 g1 g2 g3 g4 g5 g6 e1 e2 e3 e4 e5 e6 N sz mb tx T mc mo dr fr lt z dl)) H) (hD : va_D (fun q : Nat => s.heap.size ≤ q) ((XW h0 h1 h2 h3 h4 h5 d1 d2 d3 d4 d5 T co ow tk N ba li dr) ++ (MW g0 g1 g2 g3 g4 g5 g6 e1 e2 e3 e4 e5 e6 N sz mb tx T mc mo dr fr lt z dl))) (hS : va_S (fun q : Nat => s.heap.size ≤ q) s.heap H locs) (hl : lv_has ls 4 [(0, .ref b), (1, .ref h0), (2, .ref g0), (3, .int (nI i))]) (hk : ∀ {N T : Nat} {co ow tk ba li : Nat → Int32} {dr : Int32} {sz mb tx mc mo : Nat → Int32} {fr : Int32} {lt z : Nat} {dl : Nat → Int32}, Rel N T co ow tk ba li dr sz mb tx mc mo fr lt z dl → ∀ (H : Heap) (locs : List Loc), va_P D vwCl ((XW h0 h1 h2 h3 h4 h5 d1 d2 d3 d4 d5 T co ow tk N ba li dr) ++ (MW g0 g1 g2 g3 g4 g5 g6 e1 e2 e3 e4 e5 e6 N sz mb tx T mc mo dr fr lt z dl)) H → va_D (fun q : Nat => s.heap.size ≤ q) ((XW h0 h1 h2 h3 h4 h5 d1 d2 d3 d4 d5 T co ow tk N ba li dr) ++ (MW g0 g1 g2 g3 g4 g5 g6 e1 e2 e3 e4 e5 e6 N sz mb tx T mc mo dr fr lt z dl)) → va_S (fun q : Nat => s.heap.size ≤ q) s.heap H locs → W p l e room_1 s m #[Value.ref b] below meth c H locs 13 376 Q (F0 m 493 ls [])) : W p l e room_1 s m #[Value.ref b] below meth c H locs 13 376 Q (F0 m 213 ls []) := by
  have hc := hR.1
  have hT := hc.1.1
  have hN := hc.1.2.2
  have hz := hc.2.1
  have hz12 := hR.2.1
  have hli := hc.2.2.2.2.2.2.2.1
  have hA : ∀ q : Nat, s.heap.size ≤ q → (fun q : Nat => s.heap.size ≤ q) q := fun _ h => h
  have hbA : ¬ (fun q : Nat => s.heap.size ≤ q) b := Nat.not_le.mpr hbl
  refine lv_aload_n hx hb dL_law_213 rfl (lv_at hl 1 rfl) ?_
  refine cz_j (As := []) (rest := []) (wr := MW g0 g1 g2 g3 g4 g5 g6 e1 e2 e3 e4 e5 e6 N sz mb tx T mc mo dr fr lt z dl) ⟨hx, hb, hml, hown, hts⟩ (mX_versions l D h0 h1 h2 h3 h4 h5 d1 d2 d3 d4 d5 T co ow tk N ba li dr  ) (cwV 0 hts (lw_V q92 q93 q94 q11 q95) rfl rfl rfl (by decide +kernel) ⟨Nat.le_of_ble_eq_true rfl, Nat.le_of_ble_eq_true rfl⟩) hP hKx hD hS hA [0, 1, 2, 3, 4, 5] [6, 7, 8, 9, 10, 11, 12] rfl rfl (by decide) (by decide) (by decide) (ci := 0) rfl rfl rfl rfl hl.1 rfl (Nat.le_of_ble_eq_true rfl) dL_law_214 ⟨Nat.le_of_ble_eq_true rfl, Nat.le_of_ble_eq_true rfl⟩ (fun r1 u H locs hr1 hP hD hS => ?_)
  have hP : va_P D vwCl ((MW g0 g1 g2 g3 g4 g5 g6 e1 e2 e3 e4 e5 e6 N sz mb tx T mc mo dr fr lt z dl) ++ (XW h0 h1 h2 h3 h4 h5 d1 d2 d3 d4 d5 T co ow tk N ba li dr)) H := hP
  have hD : va_D (fun q : Nat => s.heap.size ≤ q) ((MW g0 g1 g2 g3 g4 g5 g6 e1 e2 e3 e4 e5 e6 N sz mb tx T mc mo dr fr lt z dl) ++ (XW h0 h1 h2 h3 h4 h5 d1 d2 d3 d4 d5 T co ow tk N ba li dr)) := hD
  refine lv_aload_n hx hb dL_law_217 rfl (lv_at hl 2 rfl) ?_
  refine cz_j (As := []) (rest := [.int (r1)]) (wr := XW h0 h1 h2 h3 h4 h5 d1 d2 d3 d4 d5 T co ow tk N ba li dr) ⟨hx, hb, hml, hown, hts⟩ (mM_versions l D g0 g1 g2 g3 g4 g5 g6 e1 e2 e3 e4 e5 e6 N sz mb tx T mc mo dr fr lt z dl ) (cwV 0 hts (lw_V q205 q206 q207 q12 q208) rfl rfl rfl (by decide +kernel) ⟨Nat.le_of_ble_eq_true rfl, Nat.le_of_ble_eq_true rfl⟩) hP hKm hD hS hA [0, 1, 2, 3, 4, 5, 6] [7, 8, 9, 10, 11, 12] rfl rfl (by decide) (by decide) (by decide) (ci := 1) rfl rfl rfl rfl hl.1 rfl (Nat.le_of_ble_eq_true rfl) dL_law_218 ⟨Nat.le_of_ble_eq_true rfl, Nat.le_of_ble_eq_true rfl⟩ (fun r2 u H locs hr2 hP hD hS => ?_)
  have hP : va_P D vwCl ((XW h0 h1 h2 h3 h4 h5 d1 d2 d3 d4 d5 T co ow tk N ba li dr) ++ (MW g0 g1 g2 g3 g4 g5 g6 e1 e2 e3 e4 e5 e6 N sz mb tx T mc mo dr fr lt z dl)) H := hP
  have hD : va_D (fun q : Nat => s.heap.size ≤ q) ((XW h0 h1 h2 h3 h4 h5 d1 d2 d3 d4 d5 T co ow tk N ba li dr) ++ (MW g0 g1 g2 g3 g4 g5 g6 e1 e2 e3 e4 e5 e6 N sz mb tx T mc mo dr fr lt z dl)) := hD
  have hr1 : r1 = nI N := hr1
  have hr2 : r2 = nI N := hr2
  have he : r1 = r2 := hr1.trans hr2.symm
  refine lv_icmp_eq (tgt := 493) hx hb dL_law_221 (by decide) (fun _ => ?_) (fun q => absurd he q)
  exact hk (⟨Z, id, hR⟩) _ _ hP hD hS
set_option maxHeartbeats 4000000 in
set_option maxRecDepth 100000 in
theorem lc_length {p : Program} {l : Launch} {e : Env} {s : State} {m : MethodId} {below : List Frame} {meth : Method} {c : Code} {Q : State → Prop} {D : va_G} {b L : Nat} {xs : Nat → Int32} {h0 h1 h2 h3 h4 h5 : Nat} {d1 d2 d3 d4 d5 : ClassId} {g0 g1 g2 g3 g4 g5 g6 : Nat} {e1 e2 e3 e4 e5 e6 : ClassId} {N T : Nat} {co ow tk ba li : Nat → Int32} {dr : Int32} {sz mb tx mc mo : Nat → Int32} {fr : Int32} {lt z : Nat} {dl : Nat → Int32} {Z id : Nat → Nat} (hx : p.tables.exec = Jvm.exec) (hb : c.code = cL_law) (hml : c.maxLocals = 4) (hown : s.vm.findClass R_law = some m.cls) (hts : ∀ w ∈ lw_all, w.before #[Value.ref b] s = true) (hX : va_X b L xs s s.heap) (hbl : b < s.heap.size) (hKx : va_K D vwCl (TYX d1 d2 d3 d4 d5) s) (hKm : va_K D vwCl (TYM e1 e2 e3 e4 e5 e6) s) {i : Nat} (hi : i + 4 ≤ L) (hL : L ≤ 256) (hR : RelZ N T co ow tk ba li dr sz mb tx mc mo fr lt z dl Z id) {H : Heap} {locs : List Loc} {ls : Array Slot} (hP : va_P D vwCl ((XW h0 h1 h2 h3 h4 h5 d1 d2 d3 d4 d5 T co ow tk N ba li dr) ++ (MW g0 g1 g2 g3 g4 g5 g6 e1 e2 e3 e4 e5 e6 N sz mb tx T mc mo dr fr lt z dl)) H) (hD : va_D (fun q : Nat => s.heap.size ≤ q) ((XW h0 h1 h2 h3 h4 h5 d1 d2 d3 d4 d5 T co ow tk N ba li dr) ++ (MW g0 g1 g2 g3 g4 g5 g6 e1 e2 e3 e4 e5 e6 N sz mb tx T mc mo dr fr lt z dl))) (hS : va_S (fun q : Nat => s.heap.size ≤ q) s.heap H locs) (hl : lv_has ls 4 [(0, .ref b), (1, .ref h0), (2, .ref g0), (3, .int (nI i))]) (hk : ∀ {N T : Nat} {co ow tk ba li : Nat → Int32} {dr : Int32} {sz mb tx mc mo : Nat → Int32} {fr : Int32} {lt z : Nat} {dl : Nat → Int32}, Rel N T co ow tk ba li dr sz mb tx mc mo fr lt z dl → ∀ (H : Heap) (locs : List Loc), va_P D vwCl ((XW h0 h1 h2 h3 h4 h5 d1 d2 d3 d4 d5 T co ow tk N ba li dr) ++ (MW g0 g1 g2 g3 g4 g5 g6 e1 e2 e3 e4 e5 e6 N sz mb tx T mc mo dr fr lt z dl)) H → va_D (fun q : Nat => s.heap.size ≤ q) ((XW h0 h1 h2 h3 h4 h5 d1 d2 d3 d4 d5 T co ow tk N ba li dr) ++ (MW g0 g1 g2 g3 g4 g5 g6 e1 e2 e3 e4 e5 e6 N sz mb tx T mc mo dr fr lt z dl)) → va_S (fun q : Nat => s.heap.size ≤ q) s.heap H locs → W p l e room_1 s m #[Value.ref b] below meth c H locs 13 376 Q (F0 m 493 ls [])) : W p l e room_1 s m #[Value.ref b] below meth c H locs 13 376 Q (F0 m 226 ls []) := by
  have hc := hR.1
  have hT := hc.1.1
  have hN := hc.1.2.2
  have hz := hc.2.1
  have hz12 := hR.2.1
  have hli := hc.2.2.2.2.2.2.2.1
  have hA : ∀ q : Nat, s.heap.size ≤ q → (fun q : Nat => s.heap.size ≤ q) q := fun _ h => h
  have hbA : ¬ (fun q : Nat => s.heap.size ≤ q) b := Nat.not_le.mpr hbl
  refine lv_aload_n hx hb dL_law_226 rfl (lv_at hl 1 rfl) ?_
  refine lv_aload_n hx hb dL_law_227 rfl (lv_at hl 0 rfl) ?_
  refine lv_iload_n hx hb dL_law_228 rfl (lv_at hl 3 rfl) ?_
  refine lv_iconst (v := nI 1) hx hb dL_law_229 (by decide +kernel) ?_
  refine wz_iadd hx hb dL_law_230 ?_
  refine wz_sld hx hb hX hbl hbA hS (i := i + 1) (by omega) (by omega) dL_law_231 ?_
  refine cz_j (As := [.int (xs (i + 1))]) (rest := []) (wr := MW g0 g1 g2 g3 g4 g5 g6 e1 e2 e3 e4 e5 e6 N sz mb tx T mc mo dr fr lt z dl) ⟨hx, hb, hml, hown, hts⟩ (mX_length l D h0 h1 h2 h3 h4 h5 d1 d2 d3 d4 d5 T co ow tk N ba li dr (xs (i + 1)) hT hN) (cwV 1 hts (lw_V q96 q97 q98 q11 q99) rfl rfl rfl (by decide +kernel) ⟨Nat.le_of_ble_eq_true rfl, Nat.le_of_ble_eq_true rfl⟩) hP hKx hD hS hA [0, 1, 2, 3, 4, 5] [6, 7, 8, 9, 10, 11, 12] rfl rfl (by decide) (by decide) (by decide) (ci := 0) rfl rfl rfl rfl hl.1 rfl (Nat.le_of_ble_eq_true rfl) dL_law_232 ⟨Nat.le_of_ble_eq_true rfl, Nat.le_of_ble_eq_true rfl⟩ (fun r1 u H locs hr1 hP hD hS => ?_)
  have hP : va_P D vwCl ((MW g0 g1 g2 g3 g4 g5 g6 e1 e2 e3 e4 e5 e6 N sz mb tx T mc mo dr fr lt z dl) ++ (XW h0 h1 h2 h3 h4 h5 d1 d2 d3 d4 d5 T co ow tk N ba li dr)) H := hP
  have hD : va_D (fun q : Nat => s.heap.size ≤ q) ((MW g0 g1 g2 g3 g4 g5 g6 e1 e2 e3 e4 e5 e6 N sz mb tx T mc mo dr fr lt z dl) ++ (XW h0 h1 h2 h3 h4 h5 d1 d2 d3 d4 d5 T co ow tk N ba li dr)) := hD
  refine lv_aload_n hx hb dL_law_235 rfl (lv_at hl 2 rfl) ?_
  refine lv_aload_n hx hb dL_law_236 rfl (lv_at hl 0 rfl) ?_
  refine lv_iload_n hx hb dL_law_237 rfl (lv_at hl 3 rfl) ?_
  refine lv_iconst (v := nI 1) hx hb dL_law_238 (by decide +kernel) ?_
  refine wz_iadd hx hb dL_law_239 ?_
  refine wz_sld hx hb hX hbl hbA hS (i := i + 1) (by omega) (by omega) dL_law_240 ?_
  refine cz_j (As := [.int (xs (i + 1))]) (rest := [.int (r1)]) (wr := XW h0 h1 h2 h3 h4 h5 d1 d2 d3 d4 d5 T co ow tk N ba li dr) ⟨hx, hb, hml, hown, hts⟩ (mM_length l D g0 g1 g2 g3 g4 g5 g6 e1 e2 e3 e4 e5 e6 N sz mb tx T mc mo dr fr lt z dl Z hN hz (xs (i + 1))) (cwV 1 hts (lw_V q209 q210 q211 q12 q212) rfl rfl rfl (by decide +kernel) ⟨Nat.le_of_ble_eq_true rfl, Nat.le_of_ble_eq_true rfl⟩) hP hKm hD hS hA [0, 1, 2, 3, 4, 5, 6] [7, 8, 9, 10, 11, 12] rfl rfl (by decide) (by decide) (by decide) (ci := 1) rfl rfl rfl rfl hl.1 rfl (Nat.le_of_ble_eq_true rfl) dL_law_241 ⟨Nat.le_of_ble_eq_true rfl, Nat.le_of_ble_eq_true rfl⟩ (fun r2 u H locs hr2 hP hD hS => ?_)
  have hP : va_P D vwCl ((XW h0 h1 h2 h3 h4 h5 d1 d2 d3 d4 d5 T co ow tk N ba li dr) ++ (MW g0 g1 g2 g3 g4 g5 g6 e1 e2 e3 e4 e5 e6 N sz mb tx T mc mo dr fr lt z dl)) H := hP
  have hD : va_D (fun q : Nat => s.heap.size ≤ q) ((XW h0 h1 h2 h3 h4 h5 d1 d2 d3 d4 d5 T co ow tk N ba li dr) ++ (MW g0 g1 g2 g3 g4 g5 g6 e1 e2 e3 e4 e5 e6 N sz mb tx T mc mo dr fr lt z dl)) := hD
  have he : r1 = r2 := ver_agree hN hr1 hr2 (fun j hj => congrArg nI (hc.2.2.2.2.2.2.2.2 j hj).1.symm)
  refine lv_icmp_eq (tgt := 493) hx hb dL_law_244 (by decide) (fun _ => ?_) (fun q => absurd he q)
  exact hk (⟨Z, id, hR⟩) _ _ hP hD hS
set_option maxHeartbeats 4000000 in
set_option maxRecDepth 100000 in
theorem lc_line {p : Program} {l : Launch} {e : Env} {s : State} {m : MethodId} {below : List Frame} {meth : Method} {c : Code} {Q : State → Prop} {D : va_G} {b L : Nat} {xs : Nat → Int32} {h0 h1 h2 h3 h4 h5 : Nat} {d1 d2 d3 d4 d5 : ClassId} {g0 g1 g2 g3 g4 g5 g6 : Nat} {e1 e2 e3 e4 e5 e6 : ClassId} {N T : Nat} {co ow tk ba li : Nat → Int32} {dr : Int32} {sz mb tx mc mo : Nat → Int32} {fr : Int32} {lt z : Nat} {dl : Nat → Int32} {Z id : Nat → Nat} (hx : p.tables.exec = Jvm.exec) (hb : c.code = cL_law) (hml : c.maxLocals = 4) (hown : s.vm.findClass R_law = some m.cls) (hts : ∀ w ∈ lw_all, w.before #[Value.ref b] s = true) (hX : va_X b L xs s s.heap) (hbl : b < s.heap.size) (hKx : va_K D vwCl (TYX d1 d2 d3 d4 d5) s) (hKm : va_K D vwCl (TYM e1 e2 e3 e4 e5 e6) s) {i : Nat} (hi : i + 4 ≤ L) (hL : L ≤ 256) (hR : RelZ N T co ow tk ba li dr sz mb tx mc mo fr lt z dl Z id) {H : Heap} {locs : List Loc} {ls : Array Slot} (hP : va_P D vwCl ((XW h0 h1 h2 h3 h4 h5 d1 d2 d3 d4 d5 T co ow tk N ba li dr) ++ (MW g0 g1 g2 g3 g4 g5 g6 e1 e2 e3 e4 e5 e6 N sz mb tx T mc mo dr fr lt z dl)) H) (hD : va_D (fun q : Nat => s.heap.size ≤ q) ((XW h0 h1 h2 h3 h4 h5 d1 d2 d3 d4 d5 T co ow tk N ba li dr) ++ (MW g0 g1 g2 g3 g4 g5 g6 e1 e2 e3 e4 e5 e6 N sz mb tx T mc mo dr fr lt z dl))) (hS : va_S (fun q : Nat => s.heap.size ≤ q) s.heap H locs) (hl : lv_has ls 4 [(0, .ref b), (1, .ref h0), (2, .ref g0), (3, .int (nI i))]) (hk : ∀ {N T : Nat} {co ow tk ba li : Nat → Int32} {dr : Int32} {sz mb tx mc mo : Nat → Int32} {fr : Int32} {lt z : Nat} {dl : Nat → Int32}, Rel N T co ow tk ba li dr sz mb tx mc mo fr lt z dl → ∀ (H : Heap) (locs : List Loc), va_P D vwCl ((XW h0 h1 h2 h3 h4 h5 d1 d2 d3 d4 d5 T co ow tk N ba li dr) ++ (MW g0 g1 g2 g3 g4 g5 g6 e1 e2 e3 e4 e5 e6 N sz mb tx T mc mo dr fr lt z dl)) H → va_D (fun q : Nat => s.heap.size ≤ q) ((XW h0 h1 h2 h3 h4 h5 d1 d2 d3 d4 d5 T co ow tk N ba li dr) ++ (MW g0 g1 g2 g3 g4 g5 g6 e1 e2 e3 e4 e5 e6 N sz mb tx T mc mo dr fr lt z dl)) → va_S (fun q : Nat => s.heap.size ≤ q) s.heap H locs → W p l e room_1 s m #[Value.ref b] below meth c H locs 13 376 Q (F0 m 493 ls [])) : W p l e room_1 s m #[Value.ref b] below meth c H locs 13 376 Q (F0 m 249 ls []) := by
  have hc := hR.1
  have hT := hc.1.1
  have hN := hc.1.2.2
  have hz := hc.2.1
  have hz12 := hR.2.1
  have hli := hc.2.2.2.2.2.2.2.1
  have hA : ∀ q : Nat, s.heap.size ≤ q → (fun q : Nat => s.heap.size ≤ q) q := fun _ h => h
  have hbA : ¬ (fun q : Nat => s.heap.size ≤ q) b := Nat.not_le.mpr hbl
  refine lv_aload_n hx hb dL_law_249 rfl (lv_at hl 1 rfl) ?_
  refine lv_aload_n hx hb dL_law_250 rfl (lv_at hl 0 rfl) ?_
  refine lv_iload_n hx hb dL_law_251 rfl (lv_at hl 3 rfl) ?_
  refine lv_iconst (v := nI 1) hx hb dL_law_252 (by decide +kernel) ?_
  refine wz_iadd hx hb dL_law_253 ?_
  refine wz_sld hx hb hX hbl hbA hS (i := i + 1) (by omega) (by omega) dL_law_254 ?_
  refine lv_aload_n hx hb dL_law_255 rfl (lv_at hl 0 rfl) ?_
  refine lv_iload_n hx hb dL_law_256 rfl (lv_at hl 3 rfl) ?_
  refine lv_iconst (v := nI 2) hx hb dL_law_257 (by decide +kernel) ?_
  refine wz_iadd hx hb dL_law_258 ?_
  refine wz_sld hx hb hX hbl hbA hS (i := i + 2) (by omega) (by omega) dL_law_259 ?_
  refine cz_j (As := [.int (xs (i + 1)), .int (xs (i + 2))]) (rest := []) (wr := MW g0 g1 g2 g3 g4 g5 g6 e1 e2 e3 e4 e5 e6 N sz mb tx T mc mo dr fr lt z dl) ⟨hx, hb, hml, hown, hts⟩ (mX_line l D h0 h1 h2 h3 h4 h5 d1 d2 d3 d4 d5 T co ow tk N ba li dr (xs (i + 1)) (xs (i + 2)) hT hN) (cwV 2 hts (lw_V q100 q101 q102 q11 q103) rfl rfl rfl (by decide +kernel) ⟨Nat.le_of_ble_eq_true rfl, Nat.le_of_ble_eq_true rfl⟩) hP hKx hD hS hA [0, 1, 2, 3, 4, 5] [6, 7, 8, 9, 10, 11, 12] rfl rfl (by decide) (by decide) (by decide) (ci := 0) rfl rfl rfl rfl hl.1 rfl (Nat.le_of_ble_eq_true rfl) dL_law_260 ⟨Nat.le_of_ble_eq_true rfl, Nat.le_of_ble_eq_true rfl⟩ (fun r1 u H locs hr1 hP hD hS => ?_)
  have hP : va_P D vwCl ((MW g0 g1 g2 g3 g4 g5 g6 e1 e2 e3 e4 e5 e6 N sz mb tx T mc mo dr fr lt z dl) ++ (XW h0 h1 h2 h3 h4 h5 d1 d2 d3 d4 d5 T co ow tk N ba li dr)) H := hP
  have hD : va_D (fun q : Nat => s.heap.size ≤ q) ((MW g0 g1 g2 g3 g4 g5 g6 e1 e2 e3 e4 e5 e6 N sz mb tx T mc mo dr fr lt z dl) ++ (XW h0 h1 h2 h3 h4 h5 d1 d2 d3 d4 d5 T co ow tk N ba li dr)) := hD
  refine lv_aload_n hx hb dL_law_263 rfl (lv_at hl 2 rfl) ?_
  refine lv_aload_n hx hb dL_law_264 rfl (lv_at hl 0 rfl) ?_
  refine lv_iload_n hx hb dL_law_265 rfl (lv_at hl 3 rfl) ?_
  refine lv_iconst (v := nI 1) hx hb dL_law_266 (by decide +kernel) ?_
  refine wz_iadd hx hb dL_law_267 ?_
  refine wz_sld hx hb hX hbl hbA hS (i := i + 1) (by omega) (by omega) dL_law_268 ?_
  refine lv_aload_n hx hb dL_law_269 rfl (lv_at hl 0 rfl) ?_
  refine lv_iload_n hx hb dL_law_270 rfl (lv_at hl 3 rfl) ?_
  refine lv_iconst (v := nI 2) hx hb dL_law_271 (by decide +kernel) ?_
  refine wz_iadd hx hb dL_law_272 ?_
  refine wz_sld hx hb hX hbl hbA hS (i := i + 2) (by omega) (by omega) dL_law_273 ?_
  refine cz_j (As := [.int (xs (i + 1)), .int (xs (i + 2))]) (rest := [.int (r1)]) (wr := XW h0 h1 h2 h3 h4 h5 d1 d2 d3 d4 d5 T co ow tk N ba li dr) ⟨hx, hb, hml, hown, hts⟩ (mM_line l D g0 g1 g2 g3 g4 g5 g6 e1 e2 e3 e4 e5 e6 N sz mb tx T mc mo dr fr lt z dl Z hN hz (rc_tx30 hc) (xs (i + 1)) (xs (i + 2))) (cwV 2 hts (lw_V q213 q214 q215 q12 q216) rfl rfl rfl (by decide +kernel) ⟨Nat.le_of_ble_eq_true rfl, Nat.le_of_ble_eq_true rfl⟩) hP hKm hD hS hA [0, 1, 2, 3, 4, 5, 6] [7, 8, 9, 10, 11, 12] rfl rfl (by decide) (by decide) (by decide) (ci := 1) rfl rfl rfl rfl hl.1 rfl (Nat.le_of_ble_eq_true rfl) dL_law_274 ⟨Nat.le_of_ble_eq_true rfl, Nat.le_of_ble_eq_true rfl⟩ (fun r2 u H locs hr2 hP hD hS => ?_)
  have hP : va_P D vwCl ((XW h0 h1 h2 h3 h4 h5 d1 d2 d3 d4 d5 T co ow tk N ba li dr) ++ (MW g0 g1 g2 g3 g4 g5 g6 e1 e2 e3 e4 e5 e6 N sz mb tx T mc mo dr fr lt z dl)) H := hP
  have hD : va_D (fun q : Nat => s.heap.size ≤ q) ((XW h0 h1 h2 h3 h4 h5 d1 d2 d3 d4 d5 T co ow tk N ba li dr) ++ (MW g0 g1 g2 g3 g4 g5 g6 e1 e2 e3 e4 e5 e6 N sz mb tx T mc mo dr fr lt z dl)) := hD
  have he : r1 = r2 := at_agree hc hr1 hr2 (fun k hk => by
    have hik := hc.2.2.1.1 k hk
    show co k = mc (nI (id k)).toNatClampNeg
    rw [nI_clamp (by omega)]; exact (hc.2.2.2.1 k hk).1)
  refine lv_icmp_eq (tgt := 493) hx hb dL_law_277 (by decide) (fun _ => ?_) (fun q => absurd he q)
  exact hk (⟨Z, id, hR⟩) _ _ hP hD hS
end
section
/-! the law, case by case -/
set_option maxHeartbeats 4000000 in
set_option maxRecDepth 100000 in
theorem lc_origin {p : Program} {l : Launch} {e : Env} {s : State} {m : MethodId} {below : List Frame} {meth : Method} {c : Code} {Q : State → Prop} {D : va_G} {b L : Nat} {xs : Nat → Int32} {h0 h1 h2 h3 h4 h5 : Nat} {d1 d2 d3 d4 d5 : ClassId} {g0 g1 g2 g3 g4 g5 g6 : Nat} {e1 e2 e3 e4 e5 e6 : ClassId} {N T : Nat} {co ow tk ba li : Nat → Int32} {dr : Int32} {sz mb tx mc mo : Nat → Int32} {fr : Int32} {lt z : Nat} {dl : Nat → Int32} {Z id : Nat → Nat} (hx : p.tables.exec = Jvm.exec) (hb : c.code = cL_law) (hml : c.maxLocals = 4) (hown : s.vm.findClass R_law = some m.cls) (hts : ∀ w ∈ lw_all, w.before #[Value.ref b] s = true) (hX : va_X b L xs s s.heap) (hbl : b < s.heap.size) (hKx : va_K D vwCl (TYX d1 d2 d3 d4 d5) s) (hKm : va_K D vwCl (TYM e1 e2 e3 e4 e5 e6) s) {i : Nat} (hi : i + 4 ≤ L) (hL : L ≤ 256) (hR : RelZ N T co ow tk ba li dr sz mb tx mc mo fr lt z dl Z id) {H : Heap} {locs : List Loc} {ls : Array Slot} (hP : va_P D vwCl ((XW h0 h1 h2 h3 h4 h5 d1 d2 d3 d4 d5 T co ow tk N ba li dr) ++ (MW g0 g1 g2 g3 g4 g5 g6 e1 e2 e3 e4 e5 e6 N sz mb tx T mc mo dr fr lt z dl)) H) (hD : va_D (fun q : Nat => s.heap.size ≤ q) ((XW h0 h1 h2 h3 h4 h5 d1 d2 d3 d4 d5 T co ow tk N ba li dr) ++ (MW g0 g1 g2 g3 g4 g5 g6 e1 e2 e3 e4 e5 e6 N sz mb tx T mc mo dr fr lt z dl))) (hS : va_S (fun q : Nat => s.heap.size ≤ q) s.heap H locs) (hl : lv_has ls 4 [(0, .ref b), (1, .ref h0), (2, .ref g0), (3, .int (nI i))]) (hk : ∀ {N T : Nat} {co ow tk ba li : Nat → Int32} {dr : Int32} {sz mb tx mc mo : Nat → Int32} {fr : Int32} {lt z : Nat} {dl : Nat → Int32}, Rel N T co ow tk ba li dr sz mb tx mc mo fr lt z dl → ∀ (H : Heap) (locs : List Loc), va_P D vwCl ((XW h0 h1 h2 h3 h4 h5 d1 d2 d3 d4 d5 T co ow tk N ba li dr) ++ (MW g0 g1 g2 g3 g4 g5 g6 e1 e2 e3 e4 e5 e6 N sz mb tx T mc mo dr fr lt z dl)) H → va_D (fun q : Nat => s.heap.size ≤ q) ((XW h0 h1 h2 h3 h4 h5 d1 d2 d3 d4 d5 T co ow tk N ba li dr) ++ (MW g0 g1 g2 g3 g4 g5 g6 e1 e2 e3 e4 e5 e6 N sz mb tx T mc mo dr fr lt z dl)) → va_S (fun q : Nat => s.heap.size ≤ q) s.heap H locs → W p l e room_1 s m #[Value.ref b] below meth c H locs 13 376 Q (F0 m 493 ls [])) : W p l e room_1 s m #[Value.ref b] below meth c H locs 13 376 Q (F0 m 282 ls []) := by
  have hc := hR.1
  have hT := hc.1.1
  have hN := hc.1.2.2
  have hz := hc.2.1
  have hz12 := hR.2.1
  have hli := hc.2.2.2.2.2.2.2.1
  have hA : ∀ q : Nat, s.heap.size ≤ q → (fun q : Nat => s.heap.size ≤ q) q := fun _ h => h
  have hbA : ¬ (fun q : Nat => s.heap.size ≤ q) b := Nat.not_le.mpr hbl
  refine lv_aload_n hx hb dL_law_282 rfl (lv_at hl 1 rfl) ?_
  refine lv_aload_n hx hb dL_law_283 rfl (lv_at hl 0 rfl) ?_
  refine lv_iload_n hx hb dL_law_284 rfl (lv_at hl 3 rfl) ?_
  refine lv_iconst (v := nI 1) hx hb dL_law_285 (by decide +kernel) ?_
  refine wz_iadd hx hb dL_law_286 ?_
  refine wz_sld hx hb hX hbl hbA hS (i := i + 1) (by omega) (by omega) dL_law_287 ?_
  refine lv_aload_n hx hb dL_law_288 rfl (lv_at hl 0 rfl) ?_
  refine lv_iload_n hx hb dL_law_289 rfl (lv_at hl 3 rfl) ?_
  refine lv_iconst (v := nI 2) hx hb dL_law_290 (by decide +kernel) ?_
  refine wz_iadd hx hb dL_law_291 ?_
  refine wz_sld hx hb hX hbl hbA hS (i := i + 2) (by omega) (by omega) dL_law_292 ?_
  refine cz_j (As := [.int (xs (i + 1)), .int (xs (i + 2))]) (rest := []) (wr := MW g0 g1 g2 g3 g4 g5 g6 e1 e2 e3 e4 e5 e6 N sz mb tx T mc mo dr fr lt z dl) ⟨hx, hb, hml, hown, hts⟩ (mX_origin l D h0 h1 h2 h3 h4 h5 d1 d2 d3 d4 d5 T co ow tk N ba li dr (xs (i + 1)) (xs (i + 2)) hT hN) (cwV 2 hts (lw_V q108 q109 q110 q11 q111) rfl rfl rfl (by decide +kernel) ⟨Nat.le_of_ble_eq_true rfl, Nat.le_of_ble_eq_true rfl⟩) hP hKx hD hS hA [0, 1, 2, 3, 4, 5] [6, 7, 8, 9, 10, 11, 12] rfl rfl (by decide) (by decide) (by decide) (ci := 0) rfl rfl rfl rfl hl.1 rfl (Nat.le_of_ble_eq_true rfl) dL_law_293 ⟨Nat.le_of_ble_eq_true rfl, Nat.le_of_ble_eq_true rfl⟩ (fun r1 u H locs hr1 hP hD hS => ?_)
  have hP : va_P D vwCl ((MW g0 g1 g2 g3 g4 g5 g6 e1 e2 e3 e4 e5 e6 N sz mb tx T mc mo dr fr lt z dl) ++ (XW h0 h1 h2 h3 h4 h5 d1 d2 d3 d4 d5 T co ow tk N ba li dr)) H := hP
  have hD : va_D (fun q : Nat => s.heap.size ≤ q) ((MW g0 g1 g2 g3 g4 g5 g6 e1 e2 e3 e4 e5 e6 N sz mb tx T mc mo dr fr lt z dl) ++ (XW h0 h1 h2 h3 h4 h5 d1 d2 d3 d4 d5 T co ow tk N ba li dr)) := hD
  refine lv_aload_n hx hb dL_law_296 rfl (lv_at hl 2 rfl) ?_
  refine lv_aload_n hx hb dL_law_297 rfl (lv_at hl 0 rfl) ?_
  refine lv_iload_n hx hb dL_law_298 rfl (lv_at hl 3 rfl) ?_
  refine lv_iconst (v := nI 1) hx hb dL_law_299 (by decide +kernel) ?_
  refine wz_iadd hx hb dL_law_300 ?_
  refine wz_sld hx hb hX hbl hbA hS (i := i + 1) (by omega) (by omega) dL_law_301 ?_
  refine lv_aload_n hx hb dL_law_302 rfl (lv_at hl 0 rfl) ?_
  refine lv_iload_n hx hb dL_law_303 rfl (lv_at hl 3 rfl) ?_
  refine lv_iconst (v := nI 2) hx hb dL_law_304 (by decide +kernel) ?_
  refine wz_iadd hx hb dL_law_305 ?_
  refine wz_sld hx hb hX hbl hbA hS (i := i + 2) (by omega) (by omega) dL_law_306 ?_
  refine cz_j (As := [.int (xs (i + 1)), .int (xs (i + 2))]) (rest := [.int (r1)]) (wr := XW h0 h1 h2 h3 h4 h5 d1 d2 d3 d4 d5 T co ow tk N ba li dr) ⟨hx, hb, hml, hown, hts⟩ (mM_origin l D g0 g1 g2 g3 g4 g5 g6 e1 e2 e3 e4 e5 e6 N sz mb tx T mc mo dr fr lt z dl Z hN hz (rc_tx30 hc) (xs (i + 1)) (xs (i + 2))) (cwV 2 hts (lw_V q221 q222 q223 q12 q224) rfl rfl rfl (by decide +kernel) ⟨Nat.le_of_ble_eq_true rfl, Nat.le_of_ble_eq_true rfl⟩) hP hKm hD hS hA [0, 1, 2, 3, 4, 5, 6] [7, 8, 9, 10, 11, 12] rfl rfl (by decide) (by decide) (by decide) (ci := 1) rfl rfl rfl rfl hl.1 rfl (Nat.le_of_ble_eq_true rfl) dL_law_307 ⟨Nat.le_of_ble_eq_true rfl, Nat.le_of_ble_eq_true rfl⟩ (fun r2 u H locs hr2 hP hD hS => ?_)
  have hP : va_P D vwCl ((XW h0 h1 h2 h3 h4 h5 d1 d2 d3 d4 d5 T co ow tk N ba li dr) ++ (MW g0 g1 g2 g3 g4 g5 g6 e1 e2 e3 e4 e5 e6 N sz mb tx T mc mo dr fr lt z dl)) H := hP
  have hD : va_D (fun q : Nat => s.heap.size ≤ q) ((XW h0 h1 h2 h3 h4 h5 d1 d2 d3 d4 d5 T co ow tk N ba li dr) ++ (MW g0 g1 g2 g3 g4 g5 g6 e1 e2 e3 e4 e5 e6 N sz mb tx T mc mo dr fr lt z dl)) := hD
  have he : r1 = r2 := at_agree hc hr1 hr2 (fun k hk => by
    have hik := hc.2.2.1.1 k hk
    show ow k = mo (nI (id k)).toNatClampNeg
    rw [nI_clamp (by omega)]; exact (hc.2.2.2.1 k hk).2)
  refine lv_icmp_eq (tgt := 493) hx hb dL_law_310 (by decide) (fun _ => ?_) (fun q => absurd he q)
  exact hk (⟨Z, id, hR⟩) _ _ hP hD hS
set_option maxHeartbeats 4000000 in
set_option maxRecDepth 100000 in
theorem lc_base {p : Program} {l : Launch} {e : Env} {s : State} {m : MethodId} {below : List Frame} {meth : Method} {c : Code} {Q : State → Prop} {D : va_G} {b L : Nat} {xs : Nat → Int32} {h0 h1 h2 h3 h4 h5 : Nat} {d1 d2 d3 d4 d5 : ClassId} {g0 g1 g2 g3 g4 g5 g6 : Nat} {e1 e2 e3 e4 e5 e6 : ClassId} {N T : Nat} {co ow tk ba li : Nat → Int32} {dr : Int32} {sz mb tx mc mo : Nat → Int32} {fr : Int32} {lt z : Nat} {dl : Nat → Int32} {Z id : Nat → Nat} (hx : p.tables.exec = Jvm.exec) (hb : c.code = cL_law) (hml : c.maxLocals = 4) (hown : s.vm.findClass R_law = some m.cls) (hts : ∀ w ∈ lw_all, w.before #[Value.ref b] s = true) (hX : va_X b L xs s s.heap) (hbl : b < s.heap.size) (hKx : va_K D vwCl (TYX d1 d2 d3 d4 d5) s) (hKm : va_K D vwCl (TYM e1 e2 e3 e4 e5 e6) s) {i : Nat} (hi : i + 4 ≤ L) (hL : L ≤ 256) (hR : RelZ N T co ow tk ba li dr sz mb tx mc mo fr lt z dl Z id) {H : Heap} {locs : List Loc} {ls : Array Slot} (hP : va_P D vwCl ((XW h0 h1 h2 h3 h4 h5 d1 d2 d3 d4 d5 T co ow tk N ba li dr) ++ (MW g0 g1 g2 g3 g4 g5 g6 e1 e2 e3 e4 e5 e6 N sz mb tx T mc mo dr fr lt z dl)) H) (hD : va_D (fun q : Nat => s.heap.size ≤ q) ((XW h0 h1 h2 h3 h4 h5 d1 d2 d3 d4 d5 T co ow tk N ba li dr) ++ (MW g0 g1 g2 g3 g4 g5 g6 e1 e2 e3 e4 e5 e6 N sz mb tx T mc mo dr fr lt z dl))) (hS : va_S (fun q : Nat => s.heap.size ≤ q) s.heap H locs) (hl : lv_has ls 4 [(0, .ref b), (1, .ref h0), (2, .ref g0), (3, .int (nI i))]) (hk : ∀ {N T : Nat} {co ow tk ba li : Nat → Int32} {dr : Int32} {sz mb tx mc mo : Nat → Int32} {fr : Int32} {lt z : Nat} {dl : Nat → Int32}, Rel N T co ow tk ba li dr sz mb tx mc mo fr lt z dl → ∀ (H : Heap) (locs : List Loc), va_P D vwCl ((XW h0 h1 h2 h3 h4 h5 d1 d2 d3 d4 d5 T co ow tk N ba li dr) ++ (MW g0 g1 g2 g3 g4 g5 g6 e1 e2 e3 e4 e5 e6 N sz mb tx T mc mo dr fr lt z dl)) H → va_D (fun q : Nat => s.heap.size ≤ q) ((XW h0 h1 h2 h3 h4 h5 d1 d2 d3 d4 d5 T co ow tk N ba li dr) ++ (MW g0 g1 g2 g3 g4 g5 g6 e1 e2 e3 e4 e5 e6 N sz mb tx T mc mo dr fr lt z dl)) → va_S (fun q : Nat => s.heap.size ≤ q) s.heap H locs → W p l e room_1 s m #[Value.ref b] below meth c H locs 13 376 Q (F0 m 493 ls [])) : W p l e room_1 s m #[Value.ref b] below meth c H locs 13 376 Q (F0 m 315 ls []) := by
  have hc := hR.1
  have hT := hc.1.1
  have hN := hc.1.2.2
  have hz := hc.2.1
  have hz12 := hR.2.1
  have hli := hc.2.2.2.2.2.2.2.1
  have hA : ∀ q : Nat, s.heap.size ≤ q → (fun q : Nat => s.heap.size ≤ q) q := fun _ h => h
  have hbA : ¬ (fun q : Nat => s.heap.size ≤ q) b := Nat.not_le.mpr hbl
  refine lv_aload_n hx hb dL_law_315 rfl (lv_at hl 1 rfl) ?_
  refine lv_aload_n hx hb dL_law_316 rfl (lv_at hl 0 rfl) ?_
  refine lv_iload_n hx hb dL_law_317 rfl (lv_at hl 3 rfl) ?_
  refine lv_iconst (v := nI 1) hx hb dL_law_318 (by decide +kernel) ?_
  refine wz_iadd hx hb dL_law_319 ?_
  refine wz_sld hx hb hX hbl hbA hS (i := i + 1) (by omega) (by omega) dL_law_320 ?_
  refine cz_j (As := [.int (xs (i + 1))]) (rest := []) (wr := MW g0 g1 g2 g3 g4 g5 g6 e1 e2 e3 e4 e5 e6 N sz mb tx T mc mo dr fr lt z dl) ⟨hx, hb, hml, hown, hts⟩ (mX_base l D h0 h1 h2 h3 h4 h5 d1 d2 d3 d4 d5 T co ow tk N ba li dr (xs (i + 1)) hT hN) (cwV 1 hts (lw_V q112 q113 q114 q11 q115) rfl rfl rfl (by decide +kernel) ⟨Nat.le_of_ble_eq_true rfl, Nat.le_of_ble_eq_true rfl⟩) hP hKx hD hS hA [0, 1, 2, 3, 4, 5] [6, 7, 8, 9, 10, 11, 12] rfl rfl (by decide) (by decide) (by decide) (ci := 0) rfl rfl rfl rfl hl.1 rfl (Nat.le_of_ble_eq_true rfl) dL_law_321 ⟨Nat.le_of_ble_eq_true rfl, Nat.le_of_ble_eq_true rfl⟩ (fun r1 u H locs hr1 hP hD hS => ?_)
  have hP : va_P D vwCl ((MW g0 g1 g2 g3 g4 g5 g6 e1 e2 e3 e4 e5 e6 N sz mb tx T mc mo dr fr lt z dl) ++ (XW h0 h1 h2 h3 h4 h5 d1 d2 d3 d4 d5 T co ow tk N ba li dr)) H := hP
  have hD : va_D (fun q : Nat => s.heap.size ≤ q) ((MW g0 g1 g2 g3 g4 g5 g6 e1 e2 e3 e4 e5 e6 N sz mb tx T mc mo dr fr lt z dl) ++ (XW h0 h1 h2 h3 h4 h5 d1 d2 d3 d4 d5 T co ow tk N ba li dr)) := hD
  refine lv_aload_n hx hb dL_law_324 rfl (lv_at hl 2 rfl) ?_
  refine lv_aload_n hx hb dL_law_325 rfl (lv_at hl 0 rfl) ?_
  refine lv_iload_n hx hb dL_law_326 rfl (lv_at hl 3 rfl) ?_
  refine lv_iconst (v := nI 1) hx hb dL_law_327 (by decide +kernel) ?_
  refine wz_iadd hx hb dL_law_328 ?_
  refine wz_sld hx hb hX hbl hbA hS (i := i + 1) (by omega) (by omega) dL_law_329 ?_
  refine cz_j (As := [.int (xs (i + 1))]) (rest := [.int (r1)]) (wr := XW h0 h1 h2 h3 h4 h5 d1 d2 d3 d4 d5 T co ow tk N ba li dr) ⟨hx, hb, hml, hown, hts⟩ (mM_base l D g0 g1 g2 g3 g4 g5 g6 e1 e2 e3 e4 e5 e6 N sz mb tx T mc mo dr fr lt z dl Z hN hz (xs (i + 1))) (cwV 1 hts (lw_V q225 q226 q227 q12 q228) rfl rfl rfl (by decide +kernel) ⟨Nat.le_of_ble_eq_true rfl, Nat.le_of_ble_eq_true rfl⟩) hP hKm hD hS hA [0, 1, 2, 3, 4, 5, 6] [7, 8, 9, 10, 11, 12] rfl rfl (by decide) (by decide) (by decide) (ci := 1) rfl rfl rfl rfl hl.1 rfl (Nat.le_of_ble_eq_true rfl) dL_law_330 ⟨Nat.le_of_ble_eq_true rfl, Nat.le_of_ble_eq_true rfl⟩ (fun r2 u H locs hr2 hP hD hS => ?_)
  have hP : va_P D vwCl ((XW h0 h1 h2 h3 h4 h5 d1 d2 d3 d4 d5 T co ow tk N ba li dr) ++ (MW g0 g1 g2 g3 g4 g5 g6 e1 e2 e3 e4 e5 e6 N sz mb tx T mc mo dr fr lt z dl)) H := hP
  have hD : va_D (fun q : Nat => s.heap.size ≤ q) ((XW h0 h1 h2 h3 h4 h5 d1 d2 d3 d4 d5 T co ow tk N ba li dr) ++ (MW g0 g1 g2 g3 g4 g5 g6 e1 e2 e3 e4 e5 e6 N sz mb tx T mc mo dr fr lt z dl)) := hD
  have he : r1 = r2 := ver_agree hN hr1 hr2 hli.2.2.1
  refine lv_icmp_eq (tgt := 493) hx hb dL_law_333 (by decide) (fun _ => ?_) (fun q => absurd he q)
  exact hk (⟨Z, id, hR⟩) _ _ hP hD hS
set_option maxHeartbeats 4000000 in
set_option maxRecDepth 100000 in
theorem lc_ancestors {p : Program} {l : Launch} {e : Env} {s : State} {m : MethodId} {below : List Frame} {meth : Method} {c : Code} {Q : State → Prop} {D : va_G} {b L : Nat} {xs : Nat → Int32} {h0 h1 h2 h3 h4 h5 : Nat} {d1 d2 d3 d4 d5 : ClassId} {g0 g1 g2 g3 g4 g5 g6 : Nat} {e1 e2 e3 e4 e5 e6 : ClassId} {N T : Nat} {co ow tk ba li : Nat → Int32} {dr : Int32} {sz mb tx mc mo : Nat → Int32} {fr : Int32} {lt z : Nat} {dl : Nat → Int32} {Z id : Nat → Nat} (hx : p.tables.exec = Jvm.exec) (hb : c.code = cL_law) (hml : c.maxLocals = 4) (hown : s.vm.findClass R_law = some m.cls) (hts : ∀ w ∈ lw_all, w.before #[Value.ref b] s = true) (hX : va_X b L xs s s.heap) (hbl : b < s.heap.size) (hKx : va_K D vwCl (TYX d1 d2 d3 d4 d5) s) (hKm : va_K D vwCl (TYM e1 e2 e3 e4 e5 e6) s) {i : Nat} (hi : i + 4 ≤ L) (hL : L ≤ 256) (hR : RelZ N T co ow tk ba li dr sz mb tx mc mo fr lt z dl Z id) {H : Heap} {locs : List Loc} {ls : Array Slot} (hP : va_P D vwCl ((XW h0 h1 h2 h3 h4 h5 d1 d2 d3 d4 d5 T co ow tk N ba li dr) ++ (MW g0 g1 g2 g3 g4 g5 g6 e1 e2 e3 e4 e5 e6 N sz mb tx T mc mo dr fr lt z dl)) H) (hD : va_D (fun q : Nat => s.heap.size ≤ q) ((XW h0 h1 h2 h3 h4 h5 d1 d2 d3 d4 d5 T co ow tk N ba li dr) ++ (MW g0 g1 g2 g3 g4 g5 g6 e1 e2 e3 e4 e5 e6 N sz mb tx T mc mo dr fr lt z dl))) (hS : va_S (fun q : Nat => s.heap.size ≤ q) s.heap H locs) (hl : lv_has ls 4 [(0, .ref b), (1, .ref h0), (2, .ref g0), (3, .int (nI i))]) (hk : ∀ {N T : Nat} {co ow tk ba li : Nat → Int32} {dr : Int32} {sz mb tx mc mo : Nat → Int32} {fr : Int32} {lt z : Nat} {dl : Nat → Int32}, Rel N T co ow tk ba li dr sz mb tx mc mo fr lt z dl → ∀ (H : Heap) (locs : List Loc), va_P D vwCl ((XW h0 h1 h2 h3 h4 h5 d1 d2 d3 d4 d5 T co ow tk N ba li dr) ++ (MW g0 g1 g2 g3 g4 g5 g6 e1 e2 e3 e4 e5 e6 N sz mb tx T mc mo dr fr lt z dl)) H → va_D (fun q : Nat => s.heap.size ≤ q) ((XW h0 h1 h2 h3 h4 h5 d1 d2 d3 d4 d5 T co ow tk N ba li dr) ++ (MW g0 g1 g2 g3 g4 g5 g6 e1 e2 e3 e4 e5 e6 N sz mb tx T mc mo dr fr lt z dl)) → va_S (fun q : Nat => s.heap.size ≤ q) s.heap H locs → W p l e room_1 s m #[Value.ref b] below meth c H locs 13 376 Q (F0 m 493 ls [])) : W p l e room_1 s m #[Value.ref b] below meth c H locs 13 376 Q (F0 m 338 ls []) := by
  have hc := hR.1
  have hT := hc.1.1
  have hN := hc.1.2.2
  have hz := hc.2.1
  have hz12 := hR.2.1
  have hli := hc.2.2.2.2.2.2.2.1
  have hA : ∀ q : Nat, s.heap.size ≤ q → (fun q : Nat => s.heap.size ≤ q) q := fun _ h => h
  have hbA : ¬ (fun q : Nat => s.heap.size ≤ q) b := Nat.not_le.mpr hbl
  refine lv_aload_n hx hb dL_law_338 rfl (lv_at hl 1 rfl) ?_
  refine lv_aload_n hx hb dL_law_339 rfl (lv_at hl 0 rfl) ?_
  refine lv_iload_n hx hb dL_law_340 rfl (lv_at hl 3 rfl) ?_
  refine lv_iconst (v := nI 1) hx hb dL_law_341 (by decide +kernel) ?_
  refine wz_iadd hx hb dL_law_342 ?_
  refine wz_sld hx hb hX hbl hbA hS (i := i + 1) (by omega) (by omega) dL_law_343 ?_
  refine cz_j (As := [.int (xs (i + 1))]) (rest := []) (wr := MW g0 g1 g2 g3 g4 g5 g6 e1 e2 e3 e4 e5 e6 N sz mb tx T mc mo dr fr lt z dl) ⟨hx, hb, hml, hown, hts⟩ (mX_ancestors l D h0 h1 h2 h3 h4 h5 d1 d2 d3 d4 d5 T co ow tk N ba li dr (xs (i + 1)) hT hN) (cwV 1 hts (lw_V q116 q117 q118 q11 q119) rfl rfl rfl (by decide +kernel) ⟨Nat.le_of_ble_eq_true rfl, Nat.le_of_ble_eq_true rfl⟩) hP hKx hD hS hA [0, 1, 2, 3, 4, 5] [6, 7, 8, 9, 10, 11, 12] rfl rfl (by decide) (by decide) (by decide) (ci := 0) rfl rfl rfl rfl hl.1 rfl (Nat.le_of_ble_eq_true rfl) dL_law_344 ⟨Nat.le_of_ble_eq_true rfl, Nat.le_of_ble_eq_true rfl⟩ (fun r1 u H locs hr1 hP hD hS => ?_)
  have hP : va_P D vwCl ((MW g0 g1 g2 g3 g4 g5 g6 e1 e2 e3 e4 e5 e6 N sz mb tx T mc mo dr fr lt z dl) ++ (XW h0 h1 h2 h3 h4 h5 d1 d2 d3 d4 d5 T co ow tk N ba li dr)) H := hP
  have hD : va_D (fun q : Nat => s.heap.size ≤ q) ((MW g0 g1 g2 g3 g4 g5 g6 e1 e2 e3 e4 e5 e6 N sz mb tx T mc mo dr fr lt z dl) ++ (XW h0 h1 h2 h3 h4 h5 d1 d2 d3 d4 d5 T co ow tk N ba li dr)) := hD
  refine lv_aload_n hx hb dL_law_347 rfl (lv_at hl 2 rfl) ?_
  refine lv_aload_n hx hb dL_law_348 rfl (lv_at hl 0 rfl) ?_
  refine lv_iload_n hx hb dL_law_349 rfl (lv_at hl 3 rfl) ?_
  refine lv_iconst (v := nI 1) hx hb dL_law_350 (by decide +kernel) ?_
  refine wz_iadd hx hb dL_law_351 ?_
  refine wz_sld hx hb hX hbl hbA hS (i := i + 1) (by omega) (by omega) dL_law_352 ?_
  refine cz_j (As := [.int (xs (i + 1))]) (rest := [.int (r1)]) (wr := XW h0 h1 h2 h3 h4 h5 d1 d2 d3 d4 d5 T co ow tk N ba li dr) ⟨hx, hb, hml, hown, hts⟩ (mM_ancestors l D g0 g1 g2 g3 g4 g5 g6 e1 e2 e3 e4 e5 e6 N sz mb tx T mc mo dr fr lt z dl li hN hli.2.1 hli.1 hli.2.2.2.1 (xs (i + 1))) (cwV 1 hts (lw_V q229 q230 q231 q12 q232) rfl rfl rfl (by decide +kernel) ⟨Nat.le_of_ble_eq_true rfl, Nat.le_of_ble_eq_true rfl⟩) hP hKm hD hS hA [0, 1, 2, 3, 4, 5, 6] [7, 8, 9, 10, 11, 12] rfl rfl (by decide) (by decide) (by decide) (ci := 1) rfl rfl rfl rfl hl.1 rfl (Nat.le_of_ble_eq_true rfl) dL_law_353 ⟨Nat.le_of_ble_eq_true rfl, Nat.le_of_ble_eq_true rfl⟩ (fun r2 u H locs hr2 hP hD hS => ?_)
  have hP : va_P D vwCl ((XW h0 h1 h2 h3 h4 h5 d1 d2 d3 d4 d5 T co ow tk N ba li dr) ++ (MW g0 g1 g2 g3 g4 g5 g6 e1 e2 e3 e4 e5 e6 N sz mb tx T mc mo dr fr lt z dl)) H := hP
  have hD : va_D (fun q : Nat => s.heap.size ≤ q) ((XW h0 h1 h2 h3 h4 h5 d1 d2 d3 d4 d5 T co ow tk N ba li dr) ++ (MW g0 g1 g2 g3 g4 g5 g6 e1 e2 e3 e4 e5 e6 N sz mb tx T mc mo dr fr lt z dl)) := hD
  have he : r1 = r2 := ver_agree hN hr1 hr2 (fun _ _ => rfl)
  refine lv_icmp_eq (tgt := 493) hx hb dL_law_356 (by decide) (fun _ => ?_) (fun q => absurd he q)
  exact hk (⟨Z, id, hR⟩) _ _ hP hD hS
set_option maxHeartbeats 4000000 in
set_option maxRecDepth 100000 in
theorem lc_shared {p : Program} {l : Launch} {e : Env} {s : State} {m : MethodId} {below : List Frame} {meth : Method} {c : Code} {Q : State → Prop} {D : va_G} {b L : Nat} {xs : Nat → Int32} {h0 h1 h2 h3 h4 h5 : Nat} {d1 d2 d3 d4 d5 : ClassId} {g0 g1 g2 g3 g4 g5 g6 : Nat} {e1 e2 e3 e4 e5 e6 : ClassId} {N T : Nat} {co ow tk ba li : Nat → Int32} {dr : Int32} {sz mb tx mc mo : Nat → Int32} {fr : Int32} {lt z : Nat} {dl : Nat → Int32} {Z id : Nat → Nat} (hx : p.tables.exec = Jvm.exec) (hb : c.code = cL_law) (hml : c.maxLocals = 4) (hown : s.vm.findClass R_law = some m.cls) (hts : ∀ w ∈ lw_all, w.before #[Value.ref b] s = true) (hX : va_X b L xs s s.heap) (hbl : b < s.heap.size) (hKx : va_K D vwCl (TYX d1 d2 d3 d4 d5) s) (hKm : va_K D vwCl (TYM e1 e2 e3 e4 e5 e6) s) {i : Nat} (hi : i + 4 ≤ L) (hL : L ≤ 256) (hR : RelZ N T co ow tk ba li dr sz mb tx mc mo fr lt z dl Z id) {H : Heap} {locs : List Loc} {ls : Array Slot} (hP : va_P D vwCl ((XW h0 h1 h2 h3 h4 h5 d1 d2 d3 d4 d5 T co ow tk N ba li dr) ++ (MW g0 g1 g2 g3 g4 g5 g6 e1 e2 e3 e4 e5 e6 N sz mb tx T mc mo dr fr lt z dl)) H) (hD : va_D (fun q : Nat => s.heap.size ≤ q) ((XW h0 h1 h2 h3 h4 h5 d1 d2 d3 d4 d5 T co ow tk N ba li dr) ++ (MW g0 g1 g2 g3 g4 g5 g6 e1 e2 e3 e4 e5 e6 N sz mb tx T mc mo dr fr lt z dl))) (hS : va_S (fun q : Nat => s.heap.size ≤ q) s.heap H locs) (hl : lv_has ls 4 [(0, .ref b), (1, .ref h0), (2, .ref g0), (3, .int (nI i))]) (hk : ∀ {N T : Nat} {co ow tk ba li : Nat → Int32} {dr : Int32} {sz mb tx mc mo : Nat → Int32} {fr : Int32} {lt z : Nat} {dl : Nat → Int32}, Rel N T co ow tk ba li dr sz mb tx mc mo fr lt z dl → ∀ (H : Heap) (locs : List Loc), va_P D vwCl ((XW h0 h1 h2 h3 h4 h5 d1 d2 d3 d4 d5 T co ow tk N ba li dr) ++ (MW g0 g1 g2 g3 g4 g5 g6 e1 e2 e3 e4 e5 e6 N sz mb tx T mc mo dr fr lt z dl)) H → va_D (fun q : Nat => s.heap.size ≤ q) ((XW h0 h1 h2 h3 h4 h5 d1 d2 d3 d4 d5 T co ow tk N ba li dr) ++ (MW g0 g1 g2 g3 g4 g5 g6 e1 e2 e3 e4 e5 e6 N sz mb tx T mc mo dr fr lt z dl)) → va_S (fun q : Nat => s.heap.size ≤ q) s.heap H locs → W p l e room_1 s m #[Value.ref b] below meth c H locs 13 376 Q (F0 m 493 ls [])) : W p l e room_1 s m #[Value.ref b] below meth c H locs 13 376 Q (F0 m 361 ls []) := by
  have hc := hR.1
  have hT := hc.1.1
  have hN := hc.1.2.2
  have hz := hc.2.1
  have hz12 := hR.2.1
  have hli := hc.2.2.2.2.2.2.2.1
  have hA : ∀ q : Nat, s.heap.size ≤ q → (fun q : Nat => s.heap.size ≤ q) q := fun _ h => h
  have hbA : ¬ (fun q : Nat => s.heap.size ≤ q) b := Nat.not_le.mpr hbl
  refine lv_aload_n hx hb dL_law_361 rfl (lv_at hl 1 rfl) ?_
  refine lv_aload_n hx hb dL_law_362 rfl (lv_at hl 0 rfl) ?_
  refine lv_iload_n hx hb dL_law_363 rfl (lv_at hl 3 rfl) ?_
  refine lv_iconst (v := nI 1) hx hb dL_law_364 (by decide +kernel) ?_
  refine wz_iadd hx hb dL_law_365 ?_
  refine wz_sld hx hb hX hbl hbA hS (i := i + 1) (by omega) (by omega) dL_law_366 ?_
  refine lv_aload_n hx hb dL_law_367 rfl (lv_at hl 0 rfl) ?_
  refine lv_iload_n hx hb dL_law_368 rfl (lv_at hl 3 rfl) ?_
  refine lv_iconst (v := nI 2) hx hb dL_law_369 (by decide +kernel) ?_
  refine wz_iadd hx hb dL_law_370 ?_
  refine wz_sld hx hb hX hbl hbA hS (i := i + 2) (by omega) (by omega) dL_law_371 ?_
  refine cz_j (As := [.int (xs (i + 1)), .int (xs (i + 2))]) (rest := []) (wr := MW g0 g1 g2 g3 g4 g5 g6 e1 e2 e3 e4 e5 e6 N sz mb tx T mc mo dr fr lt z dl) ⟨hx, hb, hml, hown, hts⟩ (mX_shared l D h0 h1 h2 h3 h4 h5 d1 d2 d3 d4 d5 T co ow tk N ba li dr (xs (i + 1)) (xs (i + 2)) hT hN) (cwV 2 hts (lw_V q120 q121 q122 q11 q123) rfl rfl rfl (by decide +kernel) ⟨Nat.le_of_ble_eq_true rfl, Nat.le_of_ble_eq_true rfl⟩) hP hKx hD hS hA [0, 1, 2, 3, 4, 5] [6, 7, 8, 9, 10, 11, 12] rfl rfl (by decide) (by decide) (by decide) (ci := 0) rfl rfl rfl rfl hl.1 rfl (Nat.le_of_ble_eq_true rfl) dL_law_372 ⟨Nat.le_of_ble_eq_true rfl, Nat.le_of_ble_eq_true rfl⟩ (fun r1 u H locs hr1 hP hD hS => ?_)
  have hP : va_P D vwCl ((MW g0 g1 g2 g3 g4 g5 g6 e1 e2 e3 e4 e5 e6 N sz mb tx T mc mo dr fr lt z dl) ++ (XW h0 h1 h2 h3 h4 h5 d1 d2 d3 d4 d5 T co ow tk N ba li dr)) H := hP
  have hD : va_D (fun q : Nat => s.heap.size ≤ q) ((MW g0 g1 g2 g3 g4 g5 g6 e1 e2 e3 e4 e5 e6 N sz mb tx T mc mo dr fr lt z dl) ++ (XW h0 h1 h2 h3 h4 h5 d1 d2 d3 d4 d5 T co ow tk N ba li dr)) := hD
  refine lv_aload_n hx hb dL_law_375 rfl (lv_at hl 2 rfl) ?_
  refine lv_aload_n hx hb dL_law_376 rfl (lv_at hl 0 rfl) ?_
  refine lv_iload_n hx hb dL_law_377 rfl (lv_at hl 3 rfl) ?_
  refine lv_iconst (v := nI 1) hx hb dL_law_378 (by decide +kernel) ?_
  refine wz_iadd hx hb dL_law_379 ?_
  refine wz_sld hx hb hX hbl hbA hS (i := i + 1) (by omega) (by omega) dL_law_380 ?_
  refine lv_aload_n hx hb dL_law_381 rfl (lv_at hl 0 rfl) ?_
  refine lv_iload_n hx hb dL_law_382 rfl (lv_at hl 3 rfl) ?_
  refine lv_iconst (v := nI 2) hx hb dL_law_383 (by decide +kernel) ?_
  refine wz_iadd hx hb dL_law_384 ?_
  refine wz_sld hx hb hX hbl hbA hS (i := i + 2) (by omega) (by omega) dL_law_385 ?_
  refine cz_j (As := [.int (xs (i + 1)), .int (xs (i + 2))]) (rest := [.int (r1)]) (wr := XW h0 h1 h2 h3 h4 h5 d1 d2 d3 d4 d5 T co ow tk N ba li dr) ⟨hx, hb, hml, hown, hts⟩ (mM_shared l D g0 g1 g2 g3 g4 g5 g6 e1 e2 e3 e4 e5 e6 N sz mb tx T mc mo dr fr lt z dl Z hN hz (xs (i + 1)) (xs (i + 2))) (cwV 2 hts (lw_V q233 q234 q235 q12 q236) rfl rfl rfl (by decide +kernel) ⟨Nat.le_of_ble_eq_true rfl, Nat.le_of_ble_eq_true rfl⟩) hP hKm hD hS hA [0, 1, 2, 3, 4, 5, 6] [7, 8, 9, 10, 11, 12] rfl rfl (by decide) (by decide) (by decide) (ci := 1) rfl rfl rfl rfl hl.1 rfl (Nat.le_of_ble_eq_true rfl) dL_law_386 ⟨Nat.le_of_ble_eq_true rfl, Nat.le_of_ble_eq_true rfl⟩ (fun r2 u H locs hr2 hP hD hS => ?_)
  have hP : va_P D vwCl ((XW h0 h1 h2 h3 h4 h5 d1 d2 d3 d4 d5 T co ow tk N ba li dr) ++ (MW g0 g1 g2 g3 g4 g5 g6 e1 e2 e3 e4 e5 e6 N sz mb tx T mc mo dr fr lt z dl)) H := hP
  have hD : va_D (fun q : Nat => s.heap.size ≤ q) ((XW h0 h1 h2 h3 h4 h5 d1 d2 d3 d4 d5 T co ow tk N ba li dr) ++ (MW g0 g1 g2 g3 g4 g5 g6 e1 e2 e3 e4 e5 e6 N sz mb tx T mc mo dr fr lt z dl)) := hD
  have he : r1 = r2 := ver2_agree hN hr1 hr2 (sr_agree hc)
  refine lv_icmp_eq (tgt := 493) hx hb dL_law_389 (by decide) (fun _ => ?_) (fun q => absurd he q)
  exact hk (⟨Z, id, hR⟩) _ _ hP hD hS
set_option maxHeartbeats 4000000 in
set_option maxRecDepth 100000 in
theorem lc_placeIn {p : Program} {l : Launch} {e : Env} {s : State} {m : MethodId} {below : List Frame} {meth : Method} {c : Code} {Q : State → Prop} {D : va_G} {b L : Nat} {xs : Nat → Int32} {h0 h1 h2 h3 h4 h5 : Nat} {d1 d2 d3 d4 d5 : ClassId} {g0 g1 g2 g3 g4 g5 g6 : Nat} {e1 e2 e3 e4 e5 e6 : ClassId} {N T : Nat} {co ow tk ba li : Nat → Int32} {dr : Int32} {sz mb tx mc mo : Nat → Int32} {fr : Int32} {lt z : Nat} {dl : Nat → Int32} {Z id : Nat → Nat} (hx : p.tables.exec = Jvm.exec) (hb : c.code = cL_law) (hml : c.maxLocals = 4) (hown : s.vm.findClass R_law = some m.cls) (hts : ∀ w ∈ lw_all, w.before #[Value.ref b] s = true) (hX : va_X b L xs s s.heap) (hbl : b < s.heap.size) (hKx : va_K D vwCl (TYX d1 d2 d3 d4 d5) s) (hKm : va_K D vwCl (TYM e1 e2 e3 e4 e5 e6) s) {i : Nat} (hi : i + 4 ≤ L) (hL : L ≤ 256) (hR : RelZ N T co ow tk ba li dr sz mb tx mc mo fr lt z dl Z id) {H : Heap} {locs : List Loc} {ls : Array Slot} (hP : va_P D vwCl ((XW h0 h1 h2 h3 h4 h5 d1 d2 d3 d4 d5 T co ow tk N ba li dr) ++ (MW g0 g1 g2 g3 g4 g5 g6 e1 e2 e3 e4 e5 e6 N sz mb tx T mc mo dr fr lt z dl)) H) (hD : va_D (fun q : Nat => s.heap.size ≤ q) ((XW h0 h1 h2 h3 h4 h5 d1 d2 d3 d4 d5 T co ow tk N ba li dr) ++ (MW g0 g1 g2 g3 g4 g5 g6 e1 e2 e3 e4 e5 e6 N sz mb tx T mc mo dr fr lt z dl))) (hS : va_S (fun q : Nat => s.heap.size ≤ q) s.heap H locs) (hl : lv_has ls 4 [(0, .ref b), (1, .ref h0), (2, .ref g0), (3, .int (nI i))]) (hk : ∀ {N T : Nat} {co ow tk ba li : Nat → Int32} {dr : Int32} {sz mb tx mc mo : Nat → Int32} {fr : Int32} {lt z : Nat} {dl : Nat → Int32}, Rel N T co ow tk ba li dr sz mb tx mc mo fr lt z dl → ∀ (H : Heap) (locs : List Loc), va_P D vwCl ((XW h0 h1 h2 h3 h4 h5 d1 d2 d3 d4 d5 T co ow tk N ba li dr) ++ (MW g0 g1 g2 g3 g4 g5 g6 e1 e2 e3 e4 e5 e6 N sz mb tx T mc mo dr fr lt z dl)) H → va_D (fun q : Nat => s.heap.size ≤ q) ((XW h0 h1 h2 h3 h4 h5 d1 d2 d3 d4 d5 T co ow tk N ba li dr) ++ (MW g0 g1 g2 g3 g4 g5 g6 e1 e2 e3 e4 e5 e6 N sz mb tx T mc mo dr fr lt z dl)) → va_S (fun q : Nat => s.heap.size ≤ q) s.heap H locs → W p l e room_1 s m #[Value.ref b] below meth c H locs 13 376 Q (F0 m 493 ls [])) : W p l e room_1 s m #[Value.ref b] below meth c H locs 13 376 Q (F0 m 394 ls []) := by
  have hc := hR.1
  have hT := hc.1.1
  have hN := hc.1.2.2
  have hz := hc.2.1
  have hz12 := hR.2.1
  have hli := hc.2.2.2.2.2.2.2.1
  have hA : ∀ q : Nat, s.heap.size ≤ q → (fun q : Nat => s.heap.size ≤ q) q := fun _ h => h
  have hbA : ¬ (fun q : Nat => s.heap.size ≤ q) b := Nat.not_le.mpr hbl
  refine lv_aload_n hx hb dL_law_394 rfl (lv_at hl 1 rfl) ?_
  refine lv_aload_n hx hb dL_law_395 rfl (lv_at hl 0 rfl) ?_
  refine lv_iload_n hx hb dL_law_396 rfl (lv_at hl 3 rfl) ?_
  refine lv_iconst (v := nI 1) hx hb dL_law_397 (by decide +kernel) ?_
  refine wz_iadd hx hb dL_law_398 ?_
  refine wz_sld hx hb hX hbl hbA hS (i := i + 1) (by omega) (by omega) dL_law_399 ?_
  refine lv_aload_n hx hb dL_law_400 rfl (lv_at hl 0 rfl) ?_
  refine lv_iload_n hx hb dL_law_401 rfl (lv_at hl 3 rfl) ?_
  refine lv_iconst (v := nI 2) hx hb dL_law_402 (by decide +kernel) ?_
  refine wz_iadd hx hb dL_law_403 ?_
  refine wz_sld hx hb hX hbl hbA hS (i := i + 2) (by omega) (by omega) dL_law_404 ?_
  refine lv_aload_n hx hb dL_law_405 rfl (lv_at hl 0 rfl) ?_
  refine lv_iload_n hx hb dL_law_406 rfl (lv_at hl 3 rfl) ?_
  refine lv_iconst (v := nI 3) hx hb dL_law_407 (by decide +kernel) ?_
  refine wz_iadd hx hb dL_law_408 ?_
  refine wz_sld hx hb hX hbl hbA hS (i := i + 3) (by omega) (by omega) dL_law_409 ?_
  refine cz_j (As := [.int (xs (i + 1)), .int (xs (i + 2)), .int (xs (i + 3))]) (rest := []) (wr := MW g0 g1 g2 g3 g4 g5 g6 e1 e2 e3 e4 e5 e6 N sz mb tx T mc mo dr fr lt z dl) ⟨hx, hb, hml, hown, hts⟩ (mX_placeIn l D h0 h1 h2 h3 h4 h5 d1 d2 d3 d4 d5 T co ow tk N ba li dr (xs (i + 1)) (xs (i + 2)) (xs (i + 3)) hT hN) (cwV 3 hts (lw_V q124 q125 q126 q11 q127) rfl rfl rfl (by decide +kernel) ⟨Nat.le_of_ble_eq_true rfl, Nat.le_of_ble_eq_true rfl⟩) hP hKx hD hS hA [0, 1, 2, 3, 4, 5] [6, 7, 8, 9, 10, 11, 12] rfl rfl (by decide) (by decide) (by decide) (ci := 0) rfl rfl rfl rfl hl.1 rfl (Nat.le_of_ble_eq_true rfl) dL_law_410 ⟨Nat.le_of_ble_eq_true rfl, Nat.le_of_ble_eq_true rfl⟩ (fun r1 u H locs hr1 hP hD hS => ?_)
  have hP : va_P D vwCl ((MW g0 g1 g2 g3 g4 g5 g6 e1 e2 e3 e4 e5 e6 N sz mb tx T mc mo dr fr lt z dl) ++ (XW h0 h1 h2 h3 h4 h5 d1 d2 d3 d4 d5 T co ow tk N ba li dr)) H := hP
  have hD : va_D (fun q : Nat => s.heap.size ≤ q) ((MW g0 g1 g2 g3 g4 g5 g6 e1 e2 e3 e4 e5 e6 N sz mb tx T mc mo dr fr lt z dl) ++ (XW h0 h1 h2 h3 h4 h5 d1 d2 d3 d4 d5 T co ow tk N ba li dr)) := hD
  refine lv_aload_n hx hb dL_law_413 rfl (lv_at hl 2 rfl) ?_
  refine lv_aload_n hx hb dL_law_414 rfl (lv_at hl 0 rfl) ?_
  refine lv_iload_n hx hb dL_law_415 rfl (lv_at hl 3 rfl) ?_
  refine lv_iconst (v := nI 1) hx hb dL_law_416 (by decide +kernel) ?_
  refine wz_iadd hx hb dL_law_417 ?_
  refine wz_sld hx hb hX hbl hbA hS (i := i + 1) (by omega) (by omega) dL_law_418 ?_
  refine lv_aload_n hx hb dL_law_419 rfl (lv_at hl 0 rfl) ?_
  refine lv_iload_n hx hb dL_law_420 rfl (lv_at hl 3 rfl) ?_
  refine lv_iconst (v := nI 2) hx hb dL_law_421 (by decide +kernel) ?_
  refine wz_iadd hx hb dL_law_422 ?_
  refine wz_sld hx hb hX hbl hbA hS (i := i + 2) (by omega) (by omega) dL_law_423 ?_
  refine lv_aload_n hx hb dL_law_424 rfl (lv_at hl 0 rfl) ?_
  refine lv_iload_n hx hb dL_law_425 rfl (lv_at hl 3 rfl) ?_
  refine lv_iconst (v := nI 3) hx hb dL_law_426 (by decide +kernel) ?_
  refine wz_iadd hx hb dL_law_427 ?_
  refine wz_sld hx hb hX hbl hbA hS (i := i + 3) (by omega) (by omega) dL_law_428 ?_
  refine cz_j (As := [.int (xs (i + 1)), .int (xs (i + 2)), .int (xs (i + 3))]) (rest := [.int (r1)]) (wr := XW h0 h1 h2 h3 h4 h5 d1 d2 d3 d4 d5 T co ow tk N ba li dr) ⟨hx, hb, hml, hown, hts⟩ (mM_placeIn l D g0 g1 g2 g3 g4 g5 g6 e1 e2 e3 e4 e5 e6 N sz mb tx T mc mo dr fr lt z dl Z hN hz (rc_tx30 hc) (xs (i + 1)) (xs (i + 2)) (xs (i + 3))) (cwV 3 hts (lw_V q241 q242 q243 q12 q244) rfl rfl rfl (by decide +kernel) ⟨Nat.le_of_ble_eq_true rfl, Nat.le_of_ble_eq_true rfl⟩) hP hKm hD hS hA [0, 1, 2, 3, 4, 5, 6] [7, 8, 9, 10, 11, 12] rfl rfl (by decide) (by decide) (by decide) (ci := 1) rfl rfl rfl rfl hl.1 rfl (Nat.le_of_ble_eq_true rfl) dL_law_429 ⟨Nat.le_of_ble_eq_true rfl, Nat.le_of_ble_eq_true rfl⟩ (fun r2 u H locs hr2 hP hD hS => ?_)
  have hP : va_P D vwCl ((XW h0 h1 h2 h3 h4 h5 d1 d2 d3 d4 d5 T co ow tk N ba li dr) ++ (MW g0 g1 g2 g3 g4 g5 g6 e1 e2 e3 e4 e5 e6 N sz mb tx T mc mo dr fr lt z dl)) H := hP
  have hD : va_D (fun q : Nat => s.heap.size ≤ q) ((XW h0 h1 h2 h3 h4 h5 d1 d2 d3 d4 d5 T co ow tk N ba li dr) ++ (MW g0 g1 g2 g3 g4 g5 g6 e1 e2 e3 e4 e5 e6 N sz mb tx T mc mo dr fr lt z dl)) := hD
  have he : r1 = r2 := at_agree hc hr1 hr2 (pl_agree hc (xs (i + 3)))
  refine lv_icmp_eq (tgt := 493) hx hb dL_law_432 (by decide) (fun _ => ?_) (fun q => absurd he q)
  exact hk (⟨Z, id, hR⟩) _ _ hP hD hS
set_option maxHeartbeats 4000000 in
set_option maxRecDepth 100000 in
theorem lc_having {p : Program} {l : Launch} {e : Env} {s : State} {m : MethodId} {below : List Frame} {meth : Method} {c : Code} {Q : State → Prop} {D : va_G} {b L : Nat} {xs : Nat → Int32} {h0 h1 h2 h3 h4 h5 : Nat} {d1 d2 d3 d4 d5 : ClassId} {g0 g1 g2 g3 g4 g5 g6 : Nat} {e1 e2 e3 e4 e5 e6 : ClassId} {N T : Nat} {co ow tk ba li : Nat → Int32} {dr : Int32} {sz mb tx mc mo : Nat → Int32} {fr : Int32} {lt z : Nat} {dl : Nat → Int32} {Z id : Nat → Nat} (hx : p.tables.exec = Jvm.exec) (hb : c.code = cL_law) (hml : c.maxLocals = 4) (hown : s.vm.findClass R_law = some m.cls) (hts : ∀ w ∈ lw_all, w.before #[Value.ref b] s = true) (hX : va_X b L xs s s.heap) (hbl : b < s.heap.size) (hKx : va_K D vwCl (TYX d1 d2 d3 d4 d5) s) (hKm : va_K D vwCl (TYM e1 e2 e3 e4 e5 e6) s) {i : Nat} (hi : i + 4 ≤ L) (hL : L ≤ 256) (hR : RelZ N T co ow tk ba li dr sz mb tx mc mo fr lt z dl Z id) {H : Heap} {locs : List Loc} {ls : Array Slot} (hP : va_P D vwCl ((XW h0 h1 h2 h3 h4 h5 d1 d2 d3 d4 d5 T co ow tk N ba li dr) ++ (MW g0 g1 g2 g3 g4 g5 g6 e1 e2 e3 e4 e5 e6 N sz mb tx T mc mo dr fr lt z dl)) H) (hD : va_D (fun q : Nat => s.heap.size ≤ q) ((XW h0 h1 h2 h3 h4 h5 d1 d2 d3 d4 d5 T co ow tk N ba li dr) ++ (MW g0 g1 g2 g3 g4 g5 g6 e1 e2 e3 e4 e5 e6 N sz mb tx T mc mo dr fr lt z dl))) (hS : va_S (fun q : Nat => s.heap.size ≤ q) s.heap H locs) (hl : lv_has ls 4 [(0, .ref b), (1, .ref h0), (2, .ref g0), (3, .int (nI i))]) (hk : ∀ {N T : Nat} {co ow tk ba li : Nat → Int32} {dr : Int32} {sz mb tx mc mo : Nat → Int32} {fr : Int32} {lt z : Nat} {dl : Nat → Int32}, Rel N T co ow tk ba li dr sz mb tx mc mo fr lt z dl → ∀ (H : Heap) (locs : List Loc), va_P D vwCl ((XW h0 h1 h2 h3 h4 h5 d1 d2 d3 d4 d5 T co ow tk N ba li dr) ++ (MW g0 g1 g2 g3 g4 g5 g6 e1 e2 e3 e4 e5 e6 N sz mb tx T mc mo dr fr lt z dl)) H → va_D (fun q : Nat => s.heap.size ≤ q) ((XW h0 h1 h2 h3 h4 h5 d1 d2 d3 d4 d5 T co ow tk N ba li dr) ++ (MW g0 g1 g2 g3 g4 g5 g6 e1 e2 e3 e4 e5 e6 N sz mb tx T mc mo dr fr lt z dl)) → va_S (fun q : Nat => s.heap.size ≤ q) s.heap H locs → W p l e room_1 s m #[Value.ref b] below meth c H locs 13 376 Q (F0 m 493 ls [])) : W p l e room_1 s m #[Value.ref b] below meth c H locs 13 376 Q (F0 m 437 ls []) := by
  have hc := hR.1
  have hT := hc.1.1
  have hN := hc.1.2.2
  have hz := hc.2.1
  have hz12 := hR.2.1
  have hli := hc.2.2.2.2.2.2.2.1
  have hA : ∀ q : Nat, s.heap.size ≤ q → (fun q : Nat => s.heap.size ≤ q) q := fun _ h => h
  have hbA : ¬ (fun q : Nat => s.heap.size ≤ q) b := Nat.not_le.mpr hbl
  refine lv_aload_n hx hb dL_law_437 rfl (lv_at hl 1 rfl) ?_
  refine lv_aload_n hx hb dL_law_438 rfl (lv_at hl 0 rfl) ?_
  refine lv_iload_n hx hb dL_law_439 rfl (lv_at hl 3 rfl) ?_
  refine lv_iconst (v := nI 1) hx hb dL_law_440 (by decide +kernel) ?_
  refine wz_iadd hx hb dL_law_441 ?_
  refine wz_sld hx hb hX hbl hbA hS (i := i + 1) (by omega) (by omega) dL_law_442 ?_
  refine lv_aload_n hx hb dL_law_443 rfl (lv_at hl 0 rfl) ?_
  refine lv_iload_n hx hb dL_law_444 rfl (lv_at hl 3 rfl) ?_
  refine lv_iconst (v := nI 2) hx hb dL_law_445 (by decide +kernel) ?_
  refine wz_iadd hx hb dL_law_446 ?_
  refine wz_sld hx hb hX hbl hbA hS (i := i + 2) (by omega) (by omega) dL_law_447 ?_
  refine cz_j (As := [.int (xs (i + 1)), .int (xs (i + 2))]) (rest := []) (wr := MW g0 g1 g2 g3 g4 g5 g6 e1 e2 e3 e4 e5 e6 N sz mb tx T mc mo dr fr lt z dl) ⟨hx, hb, hml, hown, hts⟩ (mX_having l D h0 h1 h2 h3 h4 h5 d1 d2 d3 d4 d5 T co ow tk N ba li dr (xs (i + 1)) (xs (i + 2)) hT hN) (cwV 2 hts (lw_V q128 q129 q130 q11 q131) rfl rfl rfl (by decide +kernel) ⟨Nat.le_of_ble_eq_true rfl, Nat.le_of_ble_eq_true rfl⟩) hP hKx hD hS hA [0, 1, 2, 3, 4, 5] [6, 7, 8, 9, 10, 11, 12] rfl rfl (by decide) (by decide) (by decide) (ci := 0) rfl rfl rfl rfl hl.1 rfl (Nat.le_of_ble_eq_true rfl) dL_law_448 ⟨Nat.le_of_ble_eq_true rfl, Nat.le_of_ble_eq_true rfl⟩ (fun r1 u H locs hr1 hP hD hS => ?_)
  have hP : va_P D vwCl ((MW g0 g1 g2 g3 g4 g5 g6 e1 e2 e3 e4 e5 e6 N sz mb tx T mc mo dr fr lt z dl) ++ (XW h0 h1 h2 h3 h4 h5 d1 d2 d3 d4 d5 T co ow tk N ba li dr)) H := hP
  have hD : va_D (fun q : Nat => s.heap.size ≤ q) ((MW g0 g1 g2 g3 g4 g5 g6 e1 e2 e3 e4 e5 e6 N sz mb tx T mc mo dr fr lt z dl) ++ (XW h0 h1 h2 h3 h4 h5 d1 d2 d3 d4 d5 T co ow tk N ba li dr)) := hD
  refine lv_aload_n hx hb dL_law_451 rfl (lv_at hl 2 rfl) ?_
  refine lv_aload_n hx hb dL_law_452 rfl (lv_at hl 0 rfl) ?_
  refine lv_iload_n hx hb dL_law_453 rfl (lv_at hl 3 rfl) ?_
  refine lv_iconst (v := nI 1) hx hb dL_law_454 (by decide +kernel) ?_
  refine wz_iadd hx hb dL_law_455 ?_
  refine wz_sld hx hb hX hbl hbA hS (i := i + 1) (by omega) (by omega) dL_law_456 ?_
  refine lv_aload_n hx hb dL_law_457 rfl (lv_at hl 0 rfl) ?_
  refine lv_iload_n hx hb dL_law_458 rfl (lv_at hl 3 rfl) ?_
  refine lv_iconst (v := nI 2) hx hb dL_law_459 (by decide +kernel) ?_
  refine wz_iadd hx hb dL_law_460 ?_
  refine wz_sld hx hb hX hbl hbA hS (i := i + 2) (by omega) (by omega) dL_law_461 ?_
  refine cz_j (As := [.int (xs (i + 1)), .int (xs (i + 2))]) (rest := [.int (r1)]) (wr := XW h0 h1 h2 h3 h4 h5 d1 d2 d3 d4 d5 T co ow tk N ba li dr) ⟨hx, hb, hml, hown, hts⟩ (mM_having l D g0 g1 g2 g3 g4 g5 g6 e1 e2 e3 e4 e5 e6 N sz mb tx T mc mo dr fr lt z dl Z hN hz (rc_tx30 hc) (xs (i + 1)) (xs (i + 2))) (cwV 2 hts (lw_V q245 q246 q247 q12 q248) rfl rfl rfl (by decide +kernel) ⟨Nat.le_of_ble_eq_true rfl, Nat.le_of_ble_eq_true rfl⟩) hP hKm hD hS hA [0, 1, 2, 3, 4, 5, 6] [7, 8, 9, 10, 11, 12] rfl rfl (by decide) (by decide) (by decide) (ci := 1) rfl rfl rfl rfl hl.1 rfl (Nat.le_of_ble_eq_true rfl) dL_law_462 ⟨Nat.le_of_ble_eq_true rfl, Nat.le_of_ble_eq_true rfl⟩ (fun r2 u H locs hr2 hP hD hS => ?_)
  have hP : va_P D vwCl ((XW h0 h1 h2 h3 h4 h5 d1 d2 d3 d4 d5 T co ow tk N ba li dr) ++ (MW g0 g1 g2 g3 g4 g5 g6 e1 e2 e3 e4 e5 e6 N sz mb tx T mc mo dr fr lt z dl)) H := hP
  have hD : va_D (fun q : Nat => s.heap.size ≤ q) ((XW h0 h1 h2 h3 h4 h5 d1 d2 d3 d4 d5 T co ow tk N ba li dr) ++ (MW g0 g1 g2 g3 g4 g5 g6 e1 e2 e3 e4 e5 e6 N sz mb tx T mc mo dr fr lt z dl)) := hD
  have he : r1 = r2 := at_agree hc hr1 hr2 (hv_agree hc)
  refine lv_icmp_eq (tgt := 493) hx hb dL_law_465 (by decide) (fun _ => ?_) (fun q => absurd he q)
  exact hk (⟨Z, id, hR⟩) _ _ hP hD hS
set_option maxHeartbeats 4000000 in
set_option maxRecDepth 100000 in
theorem lc_draft {p : Program} {l : Launch} {e : Env} {s : State} {m : MethodId} {below : List Frame} {meth : Method} {c : Code} {Q : State → Prop} {D : va_G} {b L : Nat} {xs : Nat → Int32} {h0 h1 h2 h3 h4 h5 : Nat} {d1 d2 d3 d4 d5 : ClassId} {g0 g1 g2 g3 g4 g5 g6 : Nat} {e1 e2 e3 e4 e5 e6 : ClassId} {N T : Nat} {co ow tk ba li : Nat → Int32} {dr : Int32} {sz mb tx mc mo : Nat → Int32} {fr : Int32} {lt z : Nat} {dl : Nat → Int32} {Z id : Nat → Nat} (hx : p.tables.exec = Jvm.exec) (hb : c.code = cL_law) (hml : c.maxLocals = 4) (hown : s.vm.findClass R_law = some m.cls) (hts : ∀ w ∈ lw_all, w.before #[Value.ref b] s = true) (hX : va_X b L xs s s.heap) (hbl : b < s.heap.size) (hKx : va_K D vwCl (TYX d1 d2 d3 d4 d5) s) (hKm : va_K D vwCl (TYM e1 e2 e3 e4 e5 e6) s) {i : Nat} (hi : i + 4 ≤ L) (hL : L ≤ 256) (hR : RelZ N T co ow tk ba li dr sz mb tx mc mo fr lt z dl Z id) {H : Heap} {locs : List Loc} {ls : Array Slot} (hP : va_P D vwCl ((XW h0 h1 h2 h3 h4 h5 d1 d2 d3 d4 d5 T co ow tk N ba li dr) ++ (MW g0 g1 g2 g3 g4 g5 g6 e1 e2 e3 e4 e5 e6 N sz mb tx T mc mo dr fr lt z dl)) H) (hD : va_D (fun q : Nat => s.heap.size ≤ q) ((XW h0 h1 h2 h3 h4 h5 d1 d2 d3 d4 d5 T co ow tk N ba li dr) ++ (MW g0 g1 g2 g3 g4 g5 g6 e1 e2 e3 e4 e5 e6 N sz mb tx T mc mo dr fr lt z dl))) (hS : va_S (fun q : Nat => s.heap.size ≤ q) s.heap H locs) (hl : lv_has ls 4 [(0, .ref b), (1, .ref h0), (2, .ref g0), (3, .int (nI i))]) (hk : ∀ {N T : Nat} {co ow tk ba li : Nat → Int32} {dr : Int32} {sz mb tx mc mo : Nat → Int32} {fr : Int32} {lt z : Nat} {dl : Nat → Int32}, Rel N T co ow tk ba li dr sz mb tx mc mo fr lt z dl → ∀ (H : Heap) (locs : List Loc), va_P D vwCl ((XW h0 h1 h2 h3 h4 h5 d1 d2 d3 d4 d5 T co ow tk N ba li dr) ++ (MW g0 g1 g2 g3 g4 g5 g6 e1 e2 e3 e4 e5 e6 N sz mb tx T mc mo dr fr lt z dl)) H → va_D (fun q : Nat => s.heap.size ≤ q) ((XW h0 h1 h2 h3 h4 h5 d1 d2 d3 d4 d5 T co ow tk N ba li dr) ++ (MW g0 g1 g2 g3 g4 g5 g6 e1 e2 e3 e4 e5 e6 N sz mb tx T mc mo dr fr lt z dl)) → va_S (fun q : Nat => s.heap.size ≤ q) s.heap H locs → W p l e room_1 s m #[Value.ref b] below meth c H locs 13 376 Q (F0 m 493 ls [])) : W p l e room_1 s m #[Value.ref b] below meth c H locs 13 376 Q (F0 m 470 ls []) := by
  have hc := hR.1
  have hT := hc.1.1
  have hN := hc.1.2.2
  have hz := hc.2.1
  have hz12 := hR.2.1
  have hli := hc.2.2.2.2.2.2.2.1
  have hA : ∀ q : Nat, s.heap.size ≤ q → (fun q : Nat => s.heap.size ≤ q) q := fun _ h => h
  have hbA : ¬ (fun q : Nat => s.heap.size ≤ q) b := Nat.not_le.mpr hbl
  refine lv_aload_n hx hb dL_law_470 rfl (lv_at hl 1 rfl) ?_
  refine lv_aload_n hx hb dL_law_471 rfl (lv_at hl 0 rfl) ?_
  refine lv_iload_n hx hb dL_law_472 rfl (lv_at hl 3 rfl) ?_
  refine lv_iconst (v := nI 1) hx hb dL_law_473 (by decide +kernel) ?_
  refine wz_iadd hx hb dL_law_474 ?_
  refine wz_sld hx hb hX hbl hbA hS (i := i + 1) (by omega) (by omega) dL_law_475 ?_
  refine cz_j (As := [.int (xs (i + 1))]) (rest := []) (wr := MW g0 g1 g2 g3 g4 g5 g6 e1 e2 e3 e4 e5 e6 N sz mb tx T mc mo dr fr lt z dl) ⟨hx, hb, hml, hown, hts⟩ (mX_draft l D h0 h1 h2 h3 h4 h5 d1 d2 d3 d4 d5 T co ow tk N ba li dr (xs (i + 1)) hT hN) (cwV 1 hts (lw_V q132 q133 q134 q11 q135) rfl rfl rfl (by decide +kernel) ⟨Nat.le_of_ble_eq_true rfl, Nat.le_of_ble_eq_true rfl⟩) hP hKx hD hS hA [0, 1, 2, 3, 4, 5] [6, 7, 8, 9, 10, 11, 12] rfl rfl (by decide) (by decide) (by decide) (ci := 0) rfl rfl rfl rfl hl.1 rfl (Nat.le_of_ble_eq_true rfl) dL_law_476 ⟨Nat.le_of_ble_eq_true rfl, Nat.le_of_ble_eq_true rfl⟩ (fun r1 u H locs hr1 hP hD hS => ?_)
  have hP : va_P D vwCl ((MW g0 g1 g2 g3 g4 g5 g6 e1 e2 e3 e4 e5 e6 N sz mb tx T mc mo dr fr lt z dl) ++ (XW h0 h1 h2 h3 h4 h5 d1 d2 d3 d4 d5 T co ow tk N ba li dr)) H := hP
  have hD : va_D (fun q : Nat => s.heap.size ≤ q) ((MW g0 g1 g2 g3 g4 g5 g6 e1 e2 e3 e4 e5 e6 N sz mb tx T mc mo dr fr lt z dl) ++ (XW h0 h1 h2 h3 h4 h5 d1 d2 d3 d4 d5 T co ow tk N ba li dr)) := hD
  refine lv_aload_n hx hb dL_law_479 rfl (lv_at hl 2 rfl) ?_
  refine lv_aload_n hx hb dL_law_480 rfl (lv_at hl 0 rfl) ?_
  refine lv_iload_n hx hb dL_law_481 rfl (lv_at hl 3 rfl) ?_
  refine lv_iconst (v := nI 1) hx hb dL_law_482 (by decide +kernel) ?_
  refine wz_iadd hx hb dL_law_483 ?_
  refine wz_sld hx hb hX hbl hbA hS (i := i + 1) (by omega) (by omega) dL_law_484 ?_
  refine cz_j (As := [.int (xs (i + 1))]) (rest := [.int (r1)]) (wr := XW h0 h1 h2 h3 h4 h5 d1 d2 d3 d4 d5 T co ow tk N ba li dr) ⟨hx, hb, hml, hown, hts⟩ (mM_draft l D g0 g1 g2 g3 g4 g5 g6 e1 e2 e3 e4 e5 e6 N sz mb tx T mc mo dr fr lt z dl hz12 (xs (i + 1))) (cwV 1 hts (lw_V q249 q250 q251 q12 q252) rfl rfl rfl (by decide +kernel) ⟨Nat.le_of_ble_eq_true rfl, Nat.le_of_ble_eq_true rfl⟩) hP hKm hD hS hA [0, 1, 2, 3, 4, 5, 6] [7, 8, 9, 10, 11, 12] rfl rfl (by decide) (by decide) (by decide) (ci := 1) rfl rfl rfl rfl hl.1 rfl (Nat.le_of_ble_eq_true rfl) dL_law_485 ⟨Nat.le_of_ble_eq_true rfl, Nat.le_of_ble_eq_true rfl⟩ (fun r2 u H locs hr2 hP hD hS => ?_)
  have hP : va_P D vwCl ((XW h0 h1 h2 h3 h4 h5 d1 d2 d3 d4 d5 T co ow tk N ba li dr) ++ (MW g0 g1 g2 g3 g4 g5 g6 e1 e2 e3 e4 e5 e6 N sz mb tx T mc mo dr fr lt z dl)) H := hP
  have hD : va_D (fun q : Nat => s.heap.size ≤ q) ((XW h0 h1 h2 h3 h4 h5 d1 d2 d3 d4 d5 T co ow tk N ba li dr) ++ (MW g0 g1 g2 g3 g4 g5 g6 e1 e2 e3 e4 e5 e6 N sz mb tx T mc mo dr fr lt z dl)) := hD
  have hr1 : r1 = drf dr (xs (i + 1)) (cnt (pv ow tk (li N)) T) (cnt (fun k => pv ow tk (li N) k && decide (ow k = nI N)) T) := hr1
  have hr2 : r2 = drf dr (xs (i + 1)) z (cnt (fun i => decide (¬ dl i < nI lt)) z) := hr2
  have he : r1 = r2 := hr1.trans ((dr_agree hR (xs (i + 1))).trans hr2.symm)
  refine lv_icmp_eq (tgt := 493) hx hb dL_law_488 (by decide) (fun _ => ?_) (fun q => absurd he q)
  exact hk (⟨Z, id, hR⟩) _ _ hP hD hS
end
section
/-! the law: its loop and its start -/
theorem wz_inc4 (i : Nat) : nI i + Int32.ofInt 4 = nI (i + 4) := by rw [show Int32.ofInt 4 = nI 4 from by decide +kernel]; exact nI_add i 4
theorem lw_le4 {i L : Nat} (hL : L ≤ 256) (hi : i ≤ 300) (h : ¬ nI L - nI 4 < nI i) : i + 4 ≤ L := by
  rw [Int32.lt_iff_toInt_lt, pk_sub_toInt (by omega) (by omega), nI_toInt (by omega)] at h
  omega
set_option maxHeartbeats 4000000 in
set_option maxRecDepth 100000 in
theorem lw_loop {p : Program} {l : Launch} {e : Env} {s : State} {m : MethodId} {below : List Frame} {meth : Method} {c : Code} {D : va_G} {b L : Nat} {xs : Nat → Int32} {h0 h1 h2 h3 h4 h5 : Nat} {d1 d2 d3 d4 d5 : ClassId} {g0 g1 g2 g3 g4 g5 g6 : Nat} {e1 e2 e3 e4 e5 e6 : ClassId} (hx : p.tables.exec = Jvm.exec) (hb : c.code = cL_law) (hml : c.maxLocals = 4) (hown : s.vm.findClass R_law = some m.cls) (hts : ∀ w ∈ lw_all, w.before #[Value.ref b] s = true) (hX : va_X b L xs s s.heap) (hbl : b < s.heap.size) (hKx : va_K D vwCl (TYX d1 d2 d3 d4 d5) s) (hKm : va_K D vwCl (TYM e1 e2 e3 e4 e5 e6) s) (hr : meth.sig.returnType = ret) (hlocks : meth.locks = false) (hL : L ≤ 256) : ∀ (n i : Nat) (N T : Nat) (co ow tk ba li : Nat → Int32) (dr : Int32) (sz mb tx mc mo : Nat → Int32) (fr : Int32) (lt z : Nat) (dl : Nat → Int32), i ≤ L → L + 1 ≤ i + n → Rel N T co ow tk ba li dr sz mb tx mc mo fr lt z dl → ∀ (H : Heap) (locs : List Loc), va_P D vwCl ((XW h0 h1 h2 h3 h4 h5 d1 d2 d3 d4 d5 T co ow tk N ba li dr) ++ (MW g0 g1 g2 g3 g4 g5 g6 e1 e2 e3 e4 e5 e6 N sz mb tx T mc mo dr fr lt z dl)) H → va_D (fun q : Nat => s.heap.size ≤ q) ((XW h0 h1 h2 h3 h4 h5 d1 d2 d3 d4 d5 T co ow tk N ba li dr) ++ (MW g0 g1 g2 g3 g4 g5 g6 e1 e2 e3 e4 e5 e6 N sz mb tx T mc mo dr fr lt z dl)) → va_S (fun q : Nat => s.heap.size ≤ q) s.heap H locs → ∀ ls : Array Slot, lv_has ls 4 [(0, .ref b), (1, .ref h0), (2, .ref g0), (3, .int (nI i))] → W p l e room_1 s m #[Value.ref b] below meth c H locs 13 376 (lw_Z below #[Value.ref b] s) (F0 m 18 ls []) := by
  intro n
  induction n with
  | zero =>
    intro i N T co ow tk ba li dr sz mb tx mc mo fr lt z dl h1 h2
    exact absurd h2 (by omega)
  | succ n ih =>
    intro i N T co ow tk ba li dr sz mb tx mc mo fr lt z dl hi hn hRel H locs hP hD hS ls hl
    have hbA : ¬ (fun q : Nat => s.heap.size ≤ q) b := Nat.not_le.mpr hbl
    refine lv_iload_n hx hb dL_law_18 rfl (lv_at hl 3 rfl) ?_
    refine lv_aload_n hx hb dL_law_19 rfl (lv_at hl 0 rfl) ?_
    refine va_slen hx hb hX hbl hbA hS dL_law_20 ?_
    refine lv_iconst (v := nI 4) hx hb dL_law_21 (by decide +kernel) ?_
    refine lv_isub hx hb dL_law_22 ?_
    refine lv_icmp_gt (tgt := 499) hx hb dL_law_23 (by decide) (fun c_23 => ?_) (fun c_23 => ?_)
    · refine lv_iconst (v := 1) hx hb dL_law_499 (by decide +kernel) ?_
      refine va_forget (fun q hq => hS.2.2 q hq) ?_
      refine W.widen (k := 600000) (n := 7290000) (Nat.le_of_ble_eq_true rfl) (Nat.le_of_ble_eq_true rfl) ?_
      exact lw_ret hx hb hr hlocks dL_law_500
    · have hi4 : i + 4 ≤ L := lw_le4 hL (by omega) c_23
      have hk : ∀ {N T : Nat} {co ow tk ba li : Nat → Int32} {dr : Int32} {sz mb tx mc mo : Nat → Int32} {fr : Int32} {lt z : Nat} {dl : Nat → Int32}, Rel N T co ow tk ba li dr sz mb tx mc mo fr lt z dl → ∀ (H : Heap) (locs : List Loc), va_P D vwCl ((XW h0 h1 h2 h3 h4 h5 d1 d2 d3 d4 d5 T co ow tk N ba li dr) ++ (MW g0 g1 g2 g3 g4 g5 g6 e1 e2 e3 e4 e5 e6 N sz mb tx T mc mo dr fr lt z dl)) H → va_D (fun q : Nat => s.heap.size ≤ q) ((XW h0 h1 h2 h3 h4 h5 d1 d2 d3 d4 d5 T co ow tk N ba li dr) ++ (MW g0 g1 g2 g3 g4 g5 g6 e1 e2 e3 e4 e5 e6 N sz mb tx T mc mo dr fr lt z dl)) → va_S (fun q : Nat => s.heap.size ≤ q) s.heap H locs → W p l e room_1 s m #[Value.ref b] below meth c H locs 13 376 (lw_Z below #[Value.ref b] s) (F0 m 493 ls []) := by
        intro N T co ow tk ba li dr sz mb tx mc mo fr lt z dl hRel H locs hP hD hS
        refine lv_iinc (v := nI (i + 4)) (lv' := [(3, .int (nI (i + 4))), (0, .ref b), (1, .ref h0), (2, .ref g0)]) hx hb dL_law_493 hl (k := 3) rfl (wz_inc4 i) (by decide) rfl (fun ls hl => ?_)
        refine lv_goto (tgt := 18) hx hb dL_law_496 (by decide) ?_
        exact ih (i + 4) N T co ow tk ba li dr sz mb tx mc mo fr lt z dl (by omega) (by omega) hRel _ _ hP hD hS ls (lv_sub hl [1, 2, 3, 0] rfl)
      obtain ⟨Z, id, hR⟩ := hRel
      refine lv_aload_n hx hb dL_law_26 rfl (lv_at hl 0 rfl) ?_
      refine lv_iload_n hx hb dL_law_27 rfl (lv_at hl 3 rfl) ?_
      refine wz_sld hx hb hX hbl hbA hS (i := i) (by omega) (by omega) dL_law_28 ?_
      refine lv_bipush (v := nI 15) hx hb dL_law_29 (by decide +kernel) ?_
      refine lv_iand hx hb dL_law_31 ?_
      obtain ⟨y, hy, ey⟩ := pk_andE (xs i) (m := nI 15) 4 (by decide +kernel)
      refine wz_top (x := (xs i) &&& (nI 15)) (y := nI y) ey ?_
      have hy16 : y < 16 := hy
      obtain rfl | rfl | rfl | rfl | rfl | rfl | rfl | rfl | rfl | rfl | rfl | rfl | rfl | rfl | rfl | rfl : y = 0 ∨ y = 1 ∨ y = 2 ∨ y = 3 ∨ y = 4 ∨ y = 5 ∨ y = 6 ∨ y = 7 ∨ y = 8 ∨ y = 9 ∨ y = 10 ∨ y = 11 ∨ y = 12 ∨ y = 13 ∨ y = 14 ∨ y = 15 := by omega
      · refine lv_tableIn (off := 76) (tgt := 108) hx hb dL_law_32 (by decide +kernel) (by decide +kernel) (by decide +kernel) (by decide) ?_
        exact lc_open hx hb hml hown hts hX hbl hKx hKm hi4 hL hR hP hD hS hl hk
      · refine lv_tableIn (off := 99) (tgt := 131) hx hb dL_law_32 (by decide +kernel) (by decide +kernel) (by decide +kernel) (by decide) ?_
        exact lc_put hx hb hml hown hts hX hbl hKx hKm hi4 hL hR hP hD hS hl hk
      · refine lv_tableIn (off := 132) (tgt := 164) hx hb dL_law_32 (by decide +kernel) (by decide +kernel) (by decide +kernel) (by decide) ?_
        exact lc_cut hx hb hml hown hts hX hbl hKx hKm hi4 hL hR hP hD hS hl hk
      · refine lv_tableIn (off := 155) (tgt := 187) hx hb dL_law_32 (by decide +kernel) (by decide +kernel) (by decide +kernel) (by decide) ?_
        exact lc_close hx hb hml hown hts hX hbl hKx hKm hi4 hL hR hP hD hS hl hk
      · refine lv_tableIn (off := 168) (tgt := 200) hx hb dL_law_32 (by decide +kernel) (by decide +kernel) (by decide +kernel) (by decide) ?_
        exact lc_discard hx hb hml hown hts hX hbl hKx hKm hi4 hL hR hP hD hS hl hk
      · refine lv_tableIn (off := 181) (tgt := 213) hx hb dL_law_32 (by decide +kernel) (by decide +kernel) (by decide +kernel) (by decide) ?_
        exact lc_versions hx hb hml hown hts hX hbl hKx hKm hi4 hL hR hP hD hS hl hk
      · refine lv_tableIn (off := 194) (tgt := 226) hx hb dL_law_32 (by decide +kernel) (by decide +kernel) (by decide +kernel) (by decide) ?_
        exact lc_length hx hb hml hown hts hX hbl hKx hKm hi4 hL hR hP hD hS hl hk
      · refine lv_tableIn (off := 217) (tgt := 249) hx hb dL_law_32 (by decide +kernel) (by decide +kernel) (by decide +kernel) (by decide) ?_
        exact lc_line hx hb hml hown hts hX hbl hKx hKm hi4 hL hR hP hD hS hl hk
      · refine lv_tableIn (off := 250) (tgt := 282) hx hb dL_law_32 (by decide +kernel) (by decide +kernel) (by decide +kernel) (by decide) ?_
        exact lc_origin hx hb hml hown hts hX hbl hKx hKm hi4 hL hR hP hD hS hl hk
      · refine lv_tableIn (off := 283) (tgt := 315) hx hb dL_law_32 (by decide +kernel) (by decide +kernel) (by decide +kernel) (by decide) ?_
        exact lc_base hx hb hml hown hts hX hbl hKx hKm hi4 hL hR hP hD hS hl hk
      · refine lv_tableIn (off := 306) (tgt := 338) hx hb dL_law_32 (by decide +kernel) (by decide +kernel) (by decide +kernel) (by decide) ?_
        exact lc_ancestors hx hb hml hown hts hX hbl hKx hKm hi4 hL hR hP hD hS hl hk
      · refine lv_tableIn (off := 329) (tgt := 361) hx hb dL_law_32 (by decide +kernel) (by decide +kernel) (by decide +kernel) (by decide) ?_
        exact lc_shared hx hb hml hown hts hX hbl hKx hKm hi4 hL hR hP hD hS hl hk
      · refine lv_tableIn (off := 362) (tgt := 394) hx hb dL_law_32 (by decide +kernel) (by decide +kernel) (by decide +kernel) (by decide) ?_
        exact lc_placeIn hx hb hml hown hts hX hbl hKx hKm hi4 hL hR hP hD hS hl hk
      · refine lv_tableIn (off := 405) (tgt := 437) hx hb dL_law_32 (by decide +kernel) (by decide +kernel) (by decide +kernel) (by decide) ?_
        exact lc_having hx hb hml hown hts hX hbl hKx hKm hi4 hL hR hP hD hS hl hk
      · refine lv_tableIn (off := 438) (tgt := 470) hx hb dL_law_32 (by decide +kernel) (by decide +kernel) (by decide +kernel) (by decide) ?_
        exact lc_draft hx hb hml hown hts hX hbl hKx hKm hi4 hL hR hP hD hS hl hk
      · refine lv_tableOut (tgt := 493) hx hb dL_law_32 (by decide +kernel) (by decide) ?_
        exact hk ⟨Z, id, hR⟩ _ _ hP hD hS
end
section
/-! the law from its entry -/
set_option maxHeartbeats 4000000 in
set_option maxRecDepth 100000 in
theorem whole_start {p : Program} {e : Env} {s : State} {m : MethodId} {below : List Frame} {meth : Method} {c : Code} (l : Launch) {b L : Nat} {xs : Nat → Int32} (hL : L ≤ 256) (C0 : lw_At p s m meth c b L xs) : W p l e room_1 s m #[Value.ref b] below meth c s.heap [] 0 0 (lw_Z below #[Value.ref b] s) (entryFrame m ([Value.ref b] : List Value).toArray 4) := by
  obtain ⟨hx, hb, hr, hml, hown, hts0, hX, hbl, hlocks, hgv⟩ := id C0
  have hb : c.code = cL_law := hb
  have hts : ∀ w ∈ lw_all, w.before #[Value.ref b] s = true := fun w h => hts0 w (lw_all_tbl h)
  have hA : ∀ q : Nat, s.heap.size ≤ q → (fun q : Nat => s.heap.size ≤ q) q := fun _ h => h
  obtain ⟨cc0, iS0, hKn0⟩ := u_known (C := RX0) (T := TX0) (N := 8) (n := 8) hts in_X0 (hts _ q14)
  obtain ⟨cc1, iS1, hKn1⟩ := u_known (C := RX1) (T := TX1) (N := 12) (n := 12) hts in_X1 (hts _ q137)
  obtain ⟨D, hKc⟩ : ∃ D : va_G, ∀ (k : Nat) (q : vw_C), vwCl[k]? = some q → u_Kn s q.1 q.2.1 q.2.2 (D.1 k) (D.2 k) := by
    refine ⟨(fun k => if k = 0 then cc0 else cc1, fun k => if k = 0 then iS0 else iS1), ?_⟩
    intro k q hq
    match k, hq with
    | 0, hq => cases hq; exact hKn0
    | 1, hq => cases hq; exact hKn1
    | k + 2, hq => simp [vwCl] at hq
  have hS : va_S (fun q : Nat => s.heap.size ≤ q) s.heap s.heap [] := va_S.rf
  have hK : va_K D vwCl [] s := ⟨hKc, fun k q h => by simp at h⟩
  have hP : va_P D vwCl [] s.heap := fun k q h => by simp at h
  have hD : va_D (fun q : Nat => s.heap.size ≤ q) [] := ⟨fun i j p q h => by simp at h, fun k q h => by simp at h⟩
  have hl := lv_entry ([.ref b]) (n := 4) (Nat.le_of_ble_eq_true rfl)
  rw [lg_entry_eq]
  generalize (lg_sl ([.ref b]) ++ List.replicate (4 - (lg_sl ([.ref b])).length) Slot.unset).toArray = ls at hl ⊢
  have hl : lv_has ls 4 [(0, .ref b)] := hl
  refine va_new (ci := 0) (fs := [.int (nI 0), .null, .null, .null, .int (nI 0), .null, .null, .int (nI 0)]) (C := RX0) (T := TX0) (N := 8) hx hb hts in_X0 tyX0 tyX0_ok hown (hts _ q13) (hts _ q14) (hts _ q11) hK hP hD hS hA rfl (fun j hj => by rcases (show j = 0 ∨ j = 1 ∨ j = 2 ∨ j = 3 ∨ j = 4 ∨ j = 5 ∨ j = 6 ∨ j = 7 by omega) with rfl | rfl | rfl | rfl | rfl | rfl | rfl | rfl <;> rfl) (Nat.le_of_ble_eq_true rfl) (Nat.le_of_ble_eq_true rfl) dL_law_0 (fun h0 H hP hD hS => ?_)
  have hP : va_P D vwCl [(h0, .inr (0, [.int (nI 0), .null, .null, .null, .int (nI 0), .null, .null, .int (nI 0)]))] H := hP
  have hD : va_D (fun q : Nat => s.heap.size ≤ q) [(h0, .inr (0, [.int (nI 0), .null, .null, .null, .int (nI 0), .null, .null, .int (nI 0)]))] := hD
  refine W.widen (k := 1) (n := 8) (Nat.le_of_ble_eq_true rfl) (Nat.le_of_ble_eq_true rfl) ?_
  refine lv_dup hx hb dL_law_3 rfl ?_
  have hFc := va_free (wc := [(h0, .inr (0, [.int (nI 0), .null, .null, .null, .int (nI 0), .null, .null, .int (nI 0)]))]) hD hS hA [0] rfl
  have hPc := hP.sub (ws' := [(h0, .inr (0, [.int (nI 0), .null, .null, .null, .int (nI 0), .null, .null, .int (nI 0)]))]) [0] rfl
  have hDc := hD.sub (ws' := [(h0, .inr (0, [.int (nI 0), .null, .null, .null, .int (nI 0), .null, .null, .int (nI 0)]))]) [0] (by decide) rfl
  refine va_callv (va_runI (As := []) (rest := [.ref h0]) ⟨hx, hb, hml, hown, hts⟩ (mX_init l D h0 H.size) (cwI 0 hts (lw_meth q17) rfl rfl rfl (hts _ q11) (hts _ q15) (hts _ q16) rfl (by decide +kernel) ⟨Nat.le_of_ble_eq_true rfl, Nat.le_of_ble_eq_true rfl⟩) ⟨cz_blind _ _ _, fun U hU hW => ⟨rfl, by rw [hU], by rw [hU]; exact hPc, va_K.moved hW.alike hK, hDc.weaken (fun _ _ _ _ => trivial)⟩⟩ rfl rfl hl.1 rfl (lv_room (Nat.le_of_ble_eq_true rfl)) dL_law_4 ⟨Nat.le_of_ble_eq_true rfl, Nat.le_of_ble_eq_true rfl⟩) hS (fun q _ h => hFc q h) hFc (fun u t H1 locs ht hvm hw hB hz1 hk1 hS => ?_)
  obtain ⟨h1, h2, h3, h4, h5, d1, d2, d3, d4, d5, ba, li⟩ := u
  obtain ⟨hP1, hK1, hD1⟩ := hB
  rw [ht] at hP1
  have hKx := va_K.moved hvm.symm hK1
  obtain ⟨hP, hD⟩ := va_join (wr := []) hP hD [0] [] rfl rfl (by decide) (by decide) hk1 hFc hP1 hD1
  generalize H1 = H at hP hS ⊢
  refine W.widen (k := 6) (n := 124) (Nat.le_of_ble_eq_true rfl) (Nat.le_of_ble_eq_true rfl) ?_
  have hw1 : ba 0 = -1 ∧ li 0 = nI 1 := hw
  have hP : va_P D vwCl (XW h0 h1 h2 h3 h4 h5 d1 d2 d3 d4 d5 0 (fun _ => nI 0) (fun _ => nI 0) (fun _ => nI 0) 1 ba li (nI 0)) H := hP
  have hD : va_D (fun q : Nat => s.heap.size ≤ q) (XW h0 h1 h2 h3 h4 h5 d1 d2 d3 d4 d5 0 (fun _ => nI 0) (fun _ => nI 0) (fun _ => nI 0) 1 ba li (nI 0)) := hD
  have hKx : va_K D vwCl (TYX d1 d2 d3 d4 d5) s := hKx
  refine lv_astore_n (lv' := [(1, .ref h0), (0, .ref b)]) hx hb dL_law_7 rfl hl (by decide) rfl (fun ls hl => ?_)
  refine va_new (ci := 1) (fs := [.int (nI 0), .null, .null, .null, .int (nI 0), .null, .null, .int (nI 0), .int (nI 0), .int (nI 0), .int (nI 0), .null]) (C := RX1) (T := TX1) (N := 12) hx hb hts in_X1 tyX1 tyX1_ok hown (hts _ q136) (hts _ q137) (hts _ q12) hK hP hD hS hA rfl (fun j hj => by rcases (show j = 0 ∨ j = 1 ∨ j = 2 ∨ j = 3 ∨ j = 4 ∨ j = 5 ∨ j = 6 ∨ j = 7 ∨ j = 8 ∨ j = 9 ∨ j = 10 ∨ j = 11 by omega) with rfl | rfl | rfl | rfl | rfl | rfl | rfl | rfl | rfl | rfl | rfl | rfl <;> rfl) (Nat.le_of_ble_eq_true rfl) (Nat.le_of_ble_eq_true rfl) dL_law_8 (fun g0 H hP hD hS => ?_)
  have hP : va_P D vwCl ((XW h0 h1 h2 h3 h4 h5 d1 d2 d3 d4 d5 0 (fun _ => nI 0) (fun _ => nI 0) (fun _ => nI 0) 1 ba li (nI 0)) ++ [(g0, .inr (1, [.int (nI 0), .null, .null, .null, .int (nI 0), .null, .null, .int (nI 0), .int (nI 0), .int (nI 0), .int (nI 0), .null]))]) H := hP
  have hD : va_D (fun q : Nat => s.heap.size ≤ q) ((XW h0 h1 h2 h3 h4 h5 d1 d2 d3 d4 d5 0 (fun _ => nI 0) (fun _ => nI 0) (fun _ => nI 0) 1 ba li (nI 0)) ++ [(g0, .inr (1, [.int (nI 0), .null, .null, .null, .int (nI 0), .null, .null, .int (nI 0), .int (nI 0), .int (nI 0), .int (nI 0), .null]))]) := hD
  refine W.widen (k := 7) (n := 136) (Nat.le_of_ble_eq_true rfl) (Nat.le_of_ble_eq_true rfl) ?_
  refine lv_dup hx hb dL_law_11 rfl ?_
  have hFc := va_free (wc := [(g0, .inr (1, [.int (nI 0), .null, .null, .null, .int (nI 0), .null, .null, .int (nI 0), .int (nI 0), .int (nI 0), .int (nI 0), .null]))]) hD hS hA [6] rfl
  have hPc := hP.sub (ws' := [(g0, .inr (1, [.int (nI 0), .null, .null, .null, .int (nI 0), .null, .null, .int (nI 0), .int (nI 0), .int (nI 0), .int (nI 0), .null]))]) [6] rfl
  have hDc := hD.sub (ws' := [(g0, .inr (1, [.int (nI 0), .null, .null, .null, .int (nI 0), .null, .null, .int (nI 0), .int (nI 0), .int (nI 0), .int (nI 0), .null]))]) [6] (by decide) rfl
  refine va_callv (va_runI (As := []) (rest := [.ref g0]) ⟨hx, hb, hml, hown, hts⟩ (mM_init l D g0 H.size) (cwI 0 hts (lw_meth q140) rfl rfl rfl (hts _ q12) (hts _ q138) (hts _ q139) rfl (by decide +kernel) ⟨Nat.le_of_ble_eq_true rfl, Nat.le_of_ble_eq_true rfl⟩) ⟨cz_blind _ _ _, fun U hU hW => ⟨rfl, by rw [hU], by rw [hU]; exact hPc, va_K.moved hW.alike hK, hDc.weaken (fun _ _ _ _ => trivial)⟩⟩ rfl rfl hl.1 rfl (lv_room (Nat.le_of_ble_eq_true rfl)) dL_law_12 ⟨Nat.le_of_ble_eq_true rfl, Nat.le_of_ble_eq_true rfl⟩) hS (fun q _ h => hFc q h) hFc (fun u t H1 locs ht hvm hw hB hz1 hk1 hS => ?_)
  obtain ⟨g1, g2, g3, g4, g5, g6, e1, e2, e3, e4, e5, e6, mb⟩ := u
  obtain ⟨hP1, hK1, hD1⟩ := hB
  rw [ht] at hP1
  have hKm := va_K.moved hvm.symm hK1
  obtain ⟨hP, hD⟩ := va_join (wr := XW h0 h1 h2 h3 h4 h5 d1 d2 d3 d4 d5 0 (fun _ => nI 0) (fun _ => nI 0) (fun _ => nI 0) 1 ba li (nI 0)) hP hD [6] [0, 1, 2, 3, 4, 5] rfl rfl (by decide) (by decide) hk1 hFc hP1 hD1
  generalize H1 = H at hP hS ⊢
  refine W.widen (k := 13) (n := 376) (Nat.le_of_ble_eq_true rfl) (Nat.le_of_ble_eq_true rfl) ?_
  have hw2 : mb 0 = -1 := hw
  have hP : va_P D vwCl ((XW h0 h1 h2 h3 h4 h5 d1 d2 d3 d4 d5 0 (fun _ => nI 0) (fun _ => nI 0) (fun _ => nI 0) 1 ba li (nI 0)) ++ (MW g0 g1 g2 g3 g4 g5 g6 e1 e2 e3 e4 e5 e6 1 (fun _ => nI 0) mb (fun _ => nI 0) 0 (fun _ => nI 0) (fun _ => nI 0) (nI 0) (nI 0) 0 0 (fun _ => nI 0))) H := hP
  have hD : va_D (fun q : Nat => s.heap.size ≤ q) ((XW h0 h1 h2 h3 h4 h5 d1 d2 d3 d4 d5 0 (fun _ => nI 0) (fun _ => nI 0) (fun _ => nI 0) 1 ba li (nI 0)) ++ (MW g0 g1 g2 g3 g4 g5 g6 e1 e2 e3 e4 e5 e6 1 (fun _ => nI 0) mb (fun _ => nI 0) 0 (fun _ => nI 0) (fun _ => nI 0) (nI 0) (nI 0) 0 0 (fun _ => nI 0))) := hD
  have hKm : va_K D vwCl (TYM e1 e2 e3 e4 e5 e6) s := hKm
  refine lv_astore_n (lv' := [(2, .ref g0), (1, .ref h0), (0, .ref b)]) hx hb dL_law_15 rfl hl (by decide) rfl (fun ls hl => ?_)
  refine lv_iconst (v := nI 0) hx hb dL_law_16 (by decide +kernel) ?_
  refine lv_istore_n (lv' := [(3, .int (nI 0)), (2, .ref g0), (1, .ref h0), (0, .ref b)]) hx hb dL_law_17 rfl hl (by decide) rfl (fun ls hl => ?_)
  exact lw_loop hx hb hml hown hts hX hbl hKx hKm hr hlocks hL (L + 1) 0 _ _ _ _ _ _ _ _ _ _ _ _ _ _ _ _ _ (Nat.zero_le L) (by omega) (rel_new hw1.1 hw1.2 hw2) _ _ hP hD hS ls (lv_sub hl [3, 2, 1, 0] rfl)
end
section
set_option maxHeartbeats 4000000 in
theorem lw_walk (l : Launch) (b : Addr) (xs : List Int32) : MetFree l x (headSpec (Jvm.Cond.code x code maxLocals ret :: tables_1) room_1) (lw_P b xs) (fun _ _ _ _ _ => True) lw_Q := by
  refine MetFree.of_bodyS (code := code) (maxLocals := maxLocals) (ret := ret) (by decide) ?_ ?_
  · intro args s m h hn
    obtain ⟨meth, c, h1, h2, h3, h4, h5, h6, -, -⟩ := Cond.code_spec hn (atoms_spec (ws := Jvm.Cond.code x code maxLocals ret :: tables_1) h _ List.mem_cons_self)
    exact ⟨meth, c, h1, h2, h3, h4, h5, h6⟩
  · intro p e s m args below meth c s₁ B hml0 hP _
    obtain ⟨rfl, hx, hbd, hgv⟩ := hP
    obtain ⟨scr, harrAt, hlist, hof, hsmall⟩ := hx
    obtain ⟨hcb, hkn, -, -⟩ := State.arrayAt?_spec harrAt
    have hown : s.vm.findClass R_law = some m.cls := findClass_of_methodNamed B.named
    have hts0 : ∀ c ∈ (Jvm.Cond.code x code maxLocals ret :: tables_1), c.before #[Value.ref b] s = true := atoms_spec (ws := Jvm.Cond.code x code maxLocals ret :: tables_1) B.pre
    have hts : ∀ w ∈ lw_tbl, w.before #[Value.ref b] s = true := k2_hts_sels lw_privs (fun w hw => hts0 w (List.mem_cons_of_mem _ hw)) lw_privs_ok
    have hml : c.maxLocals = 4 := B.maxLocals_eq (hts0 _ List.mem_cons_self)
    have X₀ : Stand p l e room_1 s m #[Value.ref b] below meth c s₁ [] 0 0 := Stand.of_body B
    have hh0 : s₁.heap = s.heap := by rw [B.state]; rfl
    have hsz : scr.slots.size = xs.length := by rw [← Array.length_toList, hlist, List.length_map]
    have hval : ∀ j : Nat, j < xs.length → scr.slots[j]? = some (.int (xs.getD j 0)) := fun j hj => by
      rw [← Array.getElem?_toList, hlist]
      simp [hj]
    have hbl : b < s.heap.size := (Array.getElem?_eq_some_iff.mp hcb).1
    have hX : va_X b xs.length (fun j => xs.getD j 0) s s.heap := ⟨scr, hcb, hof, hkn, hsz, hval⟩
    have K : W p l e room_1 s m #[Value.ref b] below meth c s₁.heap [] 0 0 (lw_Z below #[Value.ref b] s) (entryFrame m ([Value.ref b] : List Value).toArray 4) := by
      rw [hh0]
      exact whole_start l hbd ⟨B.exec, B.bytes, B.returns, hml, hown, hts, hX, hbl, B.notSynchronized, hgv⟩
    obtain ⟨t, a1, o, b1, b2, b3⟩ := K s₁ rfl X₀
    exact ⟨t, o, a1, b1, b2, b3⟩
theorem lw_pre_spec {args : Array Value} {s : State} (h : (Jvm.Cond.and given_1 narrow_1).before args s = true) (hr : rest_1_c.before args s = true) : ∃ (b : Addr) (xs : List Int32), lw_P b xs args s := by
  have hs := flat_of_before _ h
  have hq := flat_of_before _ hr
  have hc : (Cond.count 1).before args s = true := hs _ (by decide +kernel)
  have harr : (Cond.arrayOf (.arg 0) .int).before args s = true := hs _ (by decide +kernel)
  have hle : (Cond.le (.length (.arg 0)) (.int 256)).before args s = true := hs _ (by decide +kernel)
  have hlen : (Cond.isInt (.length (.arg 0))).before args s = true := hq _ (by decide +kernel)
  have hall : (Cond.all (.arg 0) (.isInt (.elem (.arg 0) (.index 0)))).before args s = true := hq _ (by decide +kernel)
  obtain ⟨b, xs, hb, hx⟩ := State.ints_of_pre rfl harr hlen hall
  have hsm : xs.length < 2 ^ 31 := hx.choose_spec.2.2.2
  have hev : (Term.length (.arg 0)).eval args s none [] s = some (.int xs.length.toInt32) := hx.length_eval hb
  have hv := Cond.le_ints hev (show (Term.int 256).eval args s none [] s = some (.int 256) from rfl)
  have hd : xs.length.toInt32 ≤ 256 := by
    simpa [Cond.before, Cond.holds, hv] using hle
  have hN : xs.length ≤ 256 := (Int32.ofNat_le_ofNat hsm (by decide)).mp (show Int32.ofNat xs.length ≤ Int32.ofNat 256 from hd)
  exact ⟨b, xs, Cond.one_arg hc (show args[0]? = some (.ref b) from hb), hx, hN, h⟩
theorem lw_comes (l : Launch) : Comes l x (Jvm.Cond.code x code maxLocals ret :: tables_1) room_1 (fun tb e args s => Calls_1 tb e args s ∧ rest_1 tb e args s ∧ Pre_1 tb e args s)
    (fun _ _ args s o t => lw_Q args s o t) := by
  intro p e ha hc hk s m args below hf hfit hheap happ hpre
  obtain ⟨b, xs, hP⟩ := lw_pre_spec hpre.2.2 hpre.2.1
  obtain ⟨k, o, h1, h2, h3, hQ⟩ := lw_walk l b xs p e ha hc hk s m args below hf ((Spec.applies_iff_loose hf).mp happ).1 hP trivial
  exact ⟨k, o, h1, h2, h3, hQ⟩
theorem lw_frame {s t : State} {o : Outcome} {args : Array Value} (h : Framed s o t [] 600000 7290000) :
    Framed s o t (fieldLocs frame_1_writes args s ++ arrayLocs frame_1_arrays args s ++ staticLocs frame_1_statics s) 600000 7290000 := h
theorem lw_limb (L : Cond) (hL : ∀ (args : Array Value) (s t : State), L.after args s (.returned (some (.int 1))) t = true) :
    ArmFor flags0 classFile x code maxLocals ret World_1 tables_1 room_1 Calls_1 rest_1 Pre_1
      (fun tb e a s o t => postC L tb e a s o t ∧ Framed s o t (fieldLocs frame_1_writes a s ++ arrayLocs frame_1_arrays a s ++ staticLocs frame_1_statics s) 600000 7290000) := by
  intro l _ _ _ p e ha hc hk s m args below hf hfit hheap happ hpre
  obtain ⟨k, o, h1, h2, h3, rfl, hF⟩ := lw_comes l p e ha hc hk s m args below hf hfit hheap happ hpre
  exact ⟨k, _, h1, h2, h3, hL args s _, lw_frame hF⟩
theorem i_vc : Claimed_1_1 ∧ Claimed_1_2 := ⟨lw_limb limb_1_1 (fun args s t => by simp [limb_1_1, Cond.after, Cond.holds, Cond.value]), lw_limb limb_1_2 (fun args s t => Cond.after_iff.mpr (by
  first | (rw [show limb_1_2 = Cond.eq .result (.int 1) from rfl, Cond.eq_ints (x := 1) (y := 1) rfl rfl]; simp; done) | (simp [limb_1_2, Cond.value, Term.eval]; done)))⟩
end
