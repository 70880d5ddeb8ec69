section
-- ===== PART A: goes FIRST, ahead of the names: the tables' words, and 'selects' of the private methods out of them =====
/-- a private method of a class that the tables say can be made, by its rows of tables_1 -/
def lw_okq (q : MethodName × Nat) : Prop := (q.1.cls ≠ "java/lang/invoke/MethodHandle" ∧ q.1.cls ≠ "java/lang/invoke/VarHandle") ∧ Cond.instantiable q.1.cls q.2 ∈ tables_1 ∧ Cond.privateMethod q.1 ∈ tables_1 ∧ Cond.instanceMethod q.1 ∈ tables_1
set_option maxRecDepth 100000
theorem lw_t1 {w : Cond} (h : w ∈ tables_1_1) : w ∈ tables_1 := List.mem_append_left _ h
theorem lw_t2 {w : Cond} (h : w ∈ tables_1_2) : w ∈ tables_1 := List.mem_append_right _ (List.mem_append_left _ h)
theorem lw_t3 {w : Cond} (h : w ∈ tables_1_3) : w ∈ tables_1 := List.mem_append_right _ (List.mem_append_right _ h)
theorem lw_p0 : lw_okq (⟨"java/util/ArrayList", "add", "(Ljava/lang/Object;[Ljava/lang/Object;I)V"⟩, 3) := ⟨⟨by decide +kernel, by decide +kernel⟩, lw_t1 (List.mem_of_getElem? (i := 41) rfl), lw_t1 (List.mem_of_getElem? (i := 76) rfl), lw_t1 (List.mem_of_getElem? (i := 77) rfl)⟩
theorem lw_p1 : lw_okq (⟨"java/util/ArrayList", "grow", "()[Ljava/lang/Object;"⟩, 3) := ⟨⟨by decide +kernel, by decide +kernel⟩, lw_t1 (List.mem_of_getElem? (i := 41) rfl), lw_t1 (List.mem_of_getElem? (i := 80) rfl), lw_t1 (List.mem_of_getElem? (i := 81) rfl)⟩
theorem lw_p2 : lw_okq (⟨"java/util/ArrayList", "grow", "(I)[Ljava/lang/Object;"⟩, 3) := ⟨⟨by decide +kernel, by decide +kernel⟩, lw_t1 (List.mem_of_getElem? (i := 41) rfl), lw_t1 (List.mem_of_getElem? (i := 84) rfl), lw_t1 (List.mem_of_getElem? (i := 85) rfl)⟩
theorem lw_p3 : lw_okq (⟨"MainframeDesk", "find", "(I)LMainframeDesk$Thing;"⟩, 9) := ⟨⟨by decide +kernel, by decide +kernel⟩, lw_t1 (List.mem_of_getElem? (i := 33) rfl), lw_t2 (List.mem_of_getElem? (i := 18) rfl), lw_t2 (List.mem_of_getElem? (i := 19) rfl)⟩
theorem lw_p4 : lw_okq (⟨"MainframeDesk", "refusal", "(ILMainframeDesk$Thing;J)I"⟩, 9) := ⟨⟨by decide +kernel, by decide +kernel⟩, lw_t1 (List.mem_of_getElem? (i := 33) rfl), lw_t2 (List.mem_of_getElem? (i := 32) rfl), lw_t2 (List.mem_of_getElem? (i := 33) rfl)⟩
theorem lw_p5 : lw_okq (⟨"MainframeDesk", "tried", "(ILMainframeDesk$Thing;J)J"⟩, 9) := ⟨⟨by decide +kernel, by decide +kernel⟩, lw_t1 (List.mem_of_getElem? (i := 33) rfl), lw_t2 (List.mem_of_getElem? (i := 41) rfl), lw_t2 (List.mem_of_getElem? (i := 42) rfl)⟩
theorem lw_p6 : lw_okq (⟨"java/lang/Throwable", "fillInStackTrace", "(I)Ljava/lang/Throwable;"⟩, 6) := ⟨⟨by decide +kernel, by decide +kernel⟩, lw_t2 (List.mem_of_getElem? (i := 75) rfl), lw_t2 (List.mem_of_getElem? (i := 73) rfl), lw_t2 (List.mem_of_getElem? (i := 74) rfl)⟩
theorem lw_p7 : lw_okq (⟨"MainframeDesk", "rowOf", "(I)Ljava/util/ArrayList;"⟩, 9) := ⟨⟨by decide +kernel, by decide +kernel⟩, lw_t1 (List.mem_of_getElem? (i := 33) rfl), lw_t2 (List.mem_of_getElem? (i := 155) rfl), lw_t2 (List.mem_of_getElem? (i := 156) rfl)⟩
theorem lw_p8 : lw_okq (⟨"MainframeDesk$Part", "fail", "()V"⟩, 2) := ⟨⟨by decide +kernel, by decide +kernel⟩, lw_t1 (List.mem_of_getElem? (i := 132) rfl), lw_t2 (List.mem_of_getElem? (i := 163) rfl), lw_t2 (List.mem_of_getElem? (i := 164) rfl)⟩
theorem lw_p9 : lw_okq (⟨"MainframeDeskModel", "reckoned", "(IIJ)J"⟩, 16) := ⟨⟨by decide +kernel, by decide +kernel⟩, lw_t3 (List.mem_of_getElem? (i := 59) rfl), lw_t3 (List.mem_of_getElem? (i := 139) rfl), lw_t3 (List.mem_of_getElem? (i := 140) rfl)⟩
theorem lw_p10 : lw_okq (⟨"MainframeDeskModel", "refusal", "(IIJ)I"⟩, 16) := ⟨⟨by decide +kernel, by decide +kernel⟩, lw_t3 (List.mem_of_getElem? (i := 59) rfl), lw_t3 (List.mem_of_getElem? (i := 143) rfl), lw_t3 (List.mem_of_getElem? (i := 144) rfl)⟩
def lw_privs_1 : List (MethodName × Nat) := [(⟨"java/util/ArrayList", "add", "(Ljava/lang/Object;[Ljava/lang/Object;I)V"⟩, 3), (⟨"java/util/ArrayList", "grow", "()[Ljava/lang/Object;"⟩, 3), (⟨"java/util/ArrayList", "grow", "(I)[Ljava/lang/Object;"⟩, 3), (⟨"MainframeDesk", "find", "(I)LMainframeDesk$Thing;"⟩, 9), (⟨"MainframeDesk", "refusal", "(ILMainframeDesk$Thing;J)I"⟩, 9), (⟨"MainframeDesk", "tried", "(ILMainframeDesk$Thing;J)J"⟩, 9), (⟨"java/lang/Throwable", "fillInStackTrace", "(I)Ljava/lang/Throwable;"⟩, 6), (⟨"MainframeDesk", "rowOf", "(I)Ljava/util/ArrayList;"⟩, 9), (⟨"MainframeDesk$Part", "fail", "()V"⟩, 2), (⟨"MainframeDeskModel", "reckoned", "(IIJ)J"⟩, 16), (⟨"MainframeDeskModel", "refusal", "(IIJ)I"⟩, 16)]
theorem lw_r1 : ∀ q ∈ lw_privs_1, lw_okq q := List.forall_mem_cons.mpr ⟨lw_p0, List.forall_mem_cons.mpr ⟨lw_p1, List.forall_mem_cons.mpr ⟨lw_p2, List.forall_mem_cons.mpr ⟨lw_p3, List.forall_mem_cons.mpr ⟨lw_p4, List.forall_mem_cons.mpr ⟨lw_p5, List.forall_mem_cons.mpr ⟨lw_p6, List.forall_mem_cons.mpr ⟨lw_p7, List.forall_mem_cons.mpr ⟨lw_p8, List.forall_mem_cons.mpr ⟨lw_p9, List.forall_mem_cons.mpr ⟨lw_p10, fun _ h => absurd h List.not_mem_nil⟩⟩⟩⟩⟩⟩⟩⟩⟩⟩⟩
def lw_privs : List (MethodName × Nat) := lw_privs_1
def lw_tbl : List Cond := k2_sels lw_privs ++ tables_1
theorem lw_privs_ok : ∀ q ∈ lw_privs, lw_okq q := lw_r1
-- ===== ONE list of words for every method: the tables' words that hold all through a run =====
def lw_all : List Cond := lw_tbl.filter goodWord
/-- a word of the tables by its place: claim/WORDS.tsv -/
theorem lw_w {w : Cond} (i : Nat) (h : lw_tbl[i]? = some w) (g : goodWord w = true) : w ∈ lw_all := List.mem_filter.mpr ⟨List.mem_of_getElem? h, g⟩
theorem lw_all_tbl {w : Cond} (h : w ∈ lw_all) : w ∈ lw_tbl := (List.mem_filter.mp h).1
theorem lw_self : GoodIn lw_all lw_all := fun w h => ⟨h, good_of_word (List.mem_filter.mp h).2⟩
/-- a class's field words, by their places -/
theorem lw_in (ws : List Cond) (ps : List Nat) (hp : ws = ps.filterMap (fun i => lw_tbl[i]?)) (hg : ws.all goodWord = true) : ∀ w ∈ ws, w ∈ lw_all := by
  intro w h
  have h1 := List.all_eq_true.mp hg w h
  rw [hp] at h
  obtain ⟨i, -, hi⟩ := List.mem_filterMap.mp h
  exact lw_w i hi h1
/-- the words of a contract for the method y with code b, L locals, answer r -/
abbrev ws_ (y : MethodName) (b : ByteArray) (L : Nat) (r : Option FieldType) : List Cond := Cond.code y b L r :: lw_all
theorem lw_meth {y : MethodName} {b : ByteArray} {L : Nat} {r : Option FieldType} (h : Cond.code y b L r ∈ lw_all) : GoodIn lw_all (ws_ y b L r) := by
  intro w hw
  rcases List.mem_cons.mp hw with e | e
  · rw [e]
    exact lw_self _ h
  · exact lw_self _ e
theorem lw_app {a c : List Cond} (ha : ∀ w ∈ a, w ∈ lw_all) (hc : GoodIn lw_all c) : GoodIn lw_all (a ++ c) := by
  intro w hw
  rcases List.mem_append.mp hw with e | e
  · exact lw_self w (ha w e)
  · exact hc w e
/-- what a call through an object asks: cwV n hts (lw_V ..) -/
theorem lw_V {own : String} {idx : Nat} {C : String} {y : MethodName} {b : ByteArray} {L : Nat} {r : Option FieldType} (h1 : Cond.methodLink own idx y ∈ lw_all) (h2 : Cond.instanceMethod y ∈ lw_all) (h3 : Cond.selects C y y ∈ lw_all) (h4 : Cond.initialized C ∈ lw_all) (h5 : Cond.code y b L r ∈ lw_all) : GoodIn lw_all (wsV own idx C y (ws_ y b L r)) := by
  refine lw_app ?_ (lw_meth h5)
  intro w hw
  simp only [List.mem_cons, List.not_mem_nil, or_false] at hw
  rcases hw with e | e | e | e
  · rw [e]; exact h1
  · rw [e]; exact h2
  · rw [e]; exact h3
  · rw [e]; exact h4
/-- what a static call asks: va_cwS n hts (lw_S ..) -/
theorem lw_S {own : String} {idx : Nat} {y : MethodName} {b : ByteArray} {L : Nat} {r : Option FieldType} (h1 : Cond.methodLink own idx y ∈ lw_all) (h2 : Cond.static y ∈ lw_all) (h3 : Cond.initialized y.cls ∈ lw_all) (h4 : Cond.code y b L r ∈ lw_all) : GoodIn lw_all (va_wsS own idx y (ws_ y b L r)) := by
  refine lw_app ?_ (lw_meth h4)
  intro w hw
  simp only [List.mem_cons, List.not_mem_nil, or_false] at hw
  rcases hw with e | e | e
  · rw [e]; exact h1
  · rw [e]; exact h2
  · rw [e]; exact h3
/-- the words of a contract for a method WITH HANDLERS (hh: its table) -/
abbrev wsW_ (y : MethodName) (b : ByteArray) (L : Nat) (r : Option FieldType) (hh : List (Nat × Nat × Nat × Nat)) : List Cond := Cond.codeWith y b L r hh :: lw_all
theorem lw_methW {y : MethodName} {b : ByteArray} {L : Nat} {r : Option FieldType} {hh : List (Nat × Nat × Nat × Nat)} (h : Cond.codeWith y b L r hh ∈ lw_all) : GoodIn lw_all (wsW_ y b L r hh) := by
  intro w hw
  rcases List.mem_cons.mp hw with e | e
  · rw [e]
    exact lw_self _ h
  · exact lw_self _ e
/-- any list of words by their places (lw_in), good -/
theorem lw_good {ws : List Cond} (h : ∀ w ∈ ws, w ∈ lw_all) : GoodIn lw_all ws := fun w hw => lw_self w (h w hw)
/-- what a call of a method with handlers asks: vx_cwVW n hts (lw_VW ..), vx_cwSW n hts (lw_SW ..) -/
theorem lw_VW {own : String} {idx : Nat} {C : String} {y : MethodName} {b : ByteArray} {L : Nat} {r : Option FieldType} {hh : List (Nat × Nat × Nat × Nat)} (h1 : Cond.methodLink own idx y ∈ lw_all) (h2 : Cond.instanceMethod y ∈ lw_all) (h3 : Cond.selects C y y ∈ lw_all) (h4 : Cond.initialized C ∈ lw_all) (h5 : Cond.codeWith y b L r hh ∈ lw_all) : GoodIn lw_all (wsV own idx C y (wsW_ y b L r hh)) := by
  refine lw_app ?_ (lw_methW h5)
  intro w hw
  simp only [List.mem_cons, List.not_mem_nil, or_false] at hw
  rcases hw with e | e | e | e
  · rw [e]; exact h1
  · rw [e]; exact h2
  · rw [e]; exact h3
  · rw [e]; exact h4
theorem lw_SW {own : String} {idx : Nat} {y : MethodName} {b : ByteArray} {L : Nat} {r : Option FieldType} {hh : List (Nat × Nat × Nat × Nat)} (h1 : Cond.methodLink own idx y ∈ lw_all) (h2 : Cond.static y ∈ lw_all) (h3 : Cond.initialized y.cls ∈ lw_all) (h4 : Cond.codeWith y b L r hh ∈ lw_all) : GoodIn lw_all (va_wsS own idx y (wsW_ y b L r hh)) := by
  refine lw_app ?_ (lw_methW h4)
  intro w hw
  simp only [List.mem_cons, List.not_mem_nil, or_false] at hw
  rcases hw with e | e | e
  · rw [e]; exact h1
  · rw [e]; exact h2
  · rw [e]; exact h3
/-- a word by its place in its run of the tables -/
theorem lw_at {r : List Cond} (hr : ∀ w ∈ r, w ∈ lw_tbl) {w : Cond} (i : Nat) (h : r[i]? = some w) : w ∈ lw_tbl := hr w (List.mem_of_getElem? h)
theorem lw_g {w : Cond} (h : w ∈ lw_tbl) (g : goodWord w = true) : w ∈ lw_all := List.mem_filter.mpr ⟨h, g⟩
theorem lw_ms : ∀ w ∈ k2_sels lw_privs, w ∈ lw_tbl := fun w h => show w ∈ k2_sels lw_privs ++ tables_1 from List.mem_append_left _ h
theorem lw_m1 : ∀ w ∈ tables_1_1, w ∈ lw_tbl := fun w h => show w ∈ k2_sels lw_privs ++ tables_1 from List.mem_append_right (k2_sels lw_privs) (show w ∈ tables_1 from List.mem_append_left _ h)
theorem lw_m2 : ∀ w ∈ tables_1_2, w ∈ lw_tbl := fun w h => show w ∈ k2_sels lw_privs ++ tables_1 from List.mem_append_right (k2_sels lw_privs) (show w ∈ tables_1 from List.mem_append_right _ (List.mem_append_left _ h))
theorem lw_m3 : ∀ w ∈ tables_1_3, w ∈ lw_tbl := fun w h => show w ∈ k2_sels lw_privs ++ tables_1 from List.mem_append_right (k2_sels lw_privs) (show w ∈ tables_1 from List.mem_append_right _ (List.mem_append_right _ h))
theorem qs0 : (Cond.selects "java/util/ArrayList" ⟨"java/util/ArrayList", "add", "(Ljava/lang/Object;[Ljava/lang/Object;I)V"⟩ ⟨"java/util/ArrayList", "add", "(Ljava/lang/Object;[Ljava/lang/Object;I)V"⟩) ∈ lw_all := lw_g (lw_at lw_ms 0 rfl) rfl
theorem qs1 : (Cond.selects "java/util/ArrayList" ⟨"java/util/ArrayList", "grow", "()[Ljava/lang/Object;"⟩ ⟨"java/util/ArrayList", "grow", "()[Ljava/lang/Object;"⟩) ∈ lw_all := lw_g (lw_at lw_ms 1 rfl) rfl
theorem qs2 : (Cond.selects "java/util/ArrayList" ⟨"java/util/ArrayList", "grow", "(I)[Ljava/lang/Object;"⟩ ⟨"java/util/ArrayList", "grow", "(I)[Ljava/lang/Object;"⟩) ∈ lw_all := lw_g (lw_at lw_ms 2 rfl) rfl
theorem qs3 : (Cond.selects "MainframeDesk" ⟨"MainframeDesk", "find", "(I)LMainframeDesk$Thing;"⟩ ⟨"MainframeDesk", "find", "(I)LMainframeDesk$Thing;"⟩) ∈ lw_all := lw_g (lw_at lw_ms 3 rfl) rfl
theorem qs4 : (Cond.selects "MainframeDesk" ⟨"MainframeDesk", "refusal", "(ILMainframeDesk$Thing;J)I"⟩ ⟨"MainframeDesk", "refusal", "(ILMainframeDesk$Thing;J)I"⟩) ∈ lw_all := lw_g (lw_at lw_ms 4 rfl) rfl
theorem qs5 : (Cond.selects "MainframeDesk" ⟨"MainframeDesk", "tried", "(ILMainframeDesk$Thing;J)J"⟩ ⟨"MainframeDesk", "tried", "(ILMainframeDesk$Thing;J)J"⟩) ∈ lw_all := lw_g (lw_at lw_ms 5 rfl) rfl
theorem qs6 : (Cond.selects "java/lang/Throwable" ⟨"java/lang/Throwable", "fillInStackTrace", "(I)Ljava/lang/Throwable;"⟩ ⟨"java/lang/Throwable", "fillInStackTrace", "(I)Ljava/lang/Throwable;"⟩) ∈ lw_all := lw_g (lw_at lw_ms 6 rfl) rfl
theorem qs7 : (Cond.selects "MainframeDesk" ⟨"MainframeDesk", "rowOf", "(I)Ljava/util/ArrayList;"⟩ ⟨"MainframeDesk", "rowOf", "(I)Ljava/util/ArrayList;"⟩) ∈ lw_all := lw_g (lw_at lw_ms 7 rfl) rfl
theorem qs8 : (Cond.selects "MainframeDesk$Part" ⟨"MainframeDesk$Part", "fail", "()V"⟩ ⟨"MainframeDesk$Part", "fail", "()V"⟩) ∈ lw_all := lw_g (lw_at lw_ms 8 rfl) rfl
theorem qs9 : (Cond.selects "MainframeDeskModel" ⟨"MainframeDeskModel", "reckoned", "(IIJ)J"⟩ ⟨"MainframeDeskModel", "reckoned", "(IIJ)J"⟩) ∈ lw_all := lw_g (lw_at lw_ms 9 rfl) rfl
theorem qs10 : (Cond.selects "MainframeDeskModel" ⟨"MainframeDeskModel", "refusal", "(IIJ)I"⟩ ⟨"MainframeDeskModel", "refusal", "(IIJ)I"⟩) ∈ lw_all := lw_g (lw_at lw_ms 10 rfl) rfl
end
section
/-! java/lang/Object -/
set_option maxRecDepth 100000
def RJ22 : String := "java/lang/Object"
abbrev cJ22_init : ByteArray := object_method_1_code
def yJ22_init : MethodName := ⟨RJ22, "<init>", "()V"⟩
theorem dJ22_init_0 : decode cJ22_init 0 = .ok (.return_, 1) := by decide +kernel
theorem q49 : (Jvm.Cond.instanceMethod ({ cls := "java/lang/Object", name := "<init>", desc := "()V" } : Jvm.MethodName)) ∈ lw_all := lw_g (lw_at lw_m1 38 rfl) rfl
theorem q50 : (Jvm.Cond.code ({ cls := "java/lang/Object", name := "<init>", desc := "()V" } : Jvm.MethodName) object_method_1_code (1 : Nat) (Option.none : Option Jvm.ClassFile.FieldType)) ∈ lw_all := lw_g (lw_at lw_m1 39 rfl) rfl
theorem q112 : (Jvm.Cond.instanceMethod ({ cls := "java/lang/Object", name := "getClass", desc := "()Ljava/lang/Class;" } : Jvm.MethodName)) ∈ lw_all := lw_g (lw_at lw_m1 101 rfl) rfl
theorem q113 : (Jvm.Cond.sameMethod "java/lang/Object" "java/lang/Object" "getClass" "()Ljava/lang/Class;") ∈ lw_all := lw_g (lw_at lw_m1 102 rfl) rfl
theorem q128 : (Jvm.Cond.native ({ cls := "java/lang/Object", name := "getClass", desc := "()Ljava/lang/Class;" } : Jvm.MethodName)) ∈ lw_all := lw_g (lw_at lw_m1 117 rfl) rfl
theorem q678 : (Jvm.Cond.declares ({ cls := "java/lang/Object", name := "getClass", desc := "()Ljava/lang/Class;" } : Jvm.MethodName)) ∈ lw_tbl := lw_at lw_m3 187 rfl

/-! java/util/AbstractCollection -/
set_option maxRecDepth 100000
def RJ0 : String := "java/util/AbstractCollection"
abbrev cJ0_init : ByteArray := prog_31_method_1_code
def yJ0_init : MethodName := ⟨RJ0, "<init>", "()V"⟩
theorem dJ0_init_0 : decode cJ0_init 0 = .ok (.aload_n 0, 1) := by decide +kernel
theorem dJ0_init_1 : decode cJ0_init 1 = .ok (.invokespecial 1, 3) := by decide +kernel
theorem dJ0_init_4 : decode cJ0_init 4 = .ok (.return_, 1) := by decide +kernel
theorem q13 : (Jvm.Cond.initialized "java/util/AbstractCollection") ∈ lw_all := lw_g (lw_at lw_m1 2 rfl) rfl
theorem q60 : (Jvm.Cond.instanceMethod ({ cls := "java/util/AbstractCollection", name := "<init>", desc := "()V" } : Jvm.MethodName)) ∈ lw_all := lw_g (lw_at lw_m1 49 rfl) rfl
theorem q61 : (Jvm.Cond.code ({ cls := "java/util/AbstractCollection", name := "<init>", desc := "()V" } : Jvm.MethodName) prog_31_method_1_code (1 : Nat) (Option.none : Option Jvm.ClassFile.FieldType)) ∈ lw_all := lw_g (lw_at lw_m1 50 rfl) rfl
theorem q62 : (Jvm.Cond.methodLink "java/util/AbstractCollection" (1 : Nat) ({ cls := "java/lang/Object", name := "<init>", desc := "()V" } : Jvm.MethodName)) ∈ lw_all := lw_g (lw_at lw_m1 51 rfl) rfl

/-! java/util/AbstractList -/
set_option maxRecDepth 100000
def RJ1 : String := "java/util/AbstractList"
abbrev cJ1_init : ByteArray := prog_32_method_1_code
def yJ1_init : MethodName := ⟨RJ1, "<init>", "()V"⟩
theorem dJ1_init_0 : decode cJ1_init 0 = .ok (.aload_n 0, 1) := by decide +kernel
theorem dJ1_init_1 : decode cJ1_init 1 = .ok (.invokespecial 1, 3) := by decide +kernel
theorem dJ1_init_4 : decode cJ1_init 4 = .ok (.aload_n 0, 1) := by decide +kernel
theorem dJ1_init_5 : decode cJ1_init 5 = .ok (.iconst 0, 1) := by decide +kernel
theorem dJ1_init_6 : decode cJ1_init 6 = .ok (.putfield 7, 3) := by decide +kernel
theorem dJ1_init_9 : decode cJ1_init 9 = .ok (.return_, 1) := by decide +kernel
theorem q14 : (Jvm.Cond.initialized "java/util/AbstractList") ∈ lw_all := lw_g (lw_at lw_m1 3 rfl) rfl
theorem q57 : (Jvm.Cond.instanceMethod ({ cls := "java/util/AbstractList", name := "<init>", desc := "()V" } : Jvm.MethodName)) ∈ lw_all := lw_g (lw_at lw_m1 46 rfl) rfl
theorem q58 : (Jvm.Cond.code ({ cls := "java/util/AbstractList", name := "<init>", desc := "()V" } : Jvm.MethodName) prog_32_method_1_code (1 : Nat) (Option.none : Option Jvm.ClassFile.FieldType)) ∈ lw_all := lw_g (lw_at lw_m1 47 rfl) rfl
theorem q59 : (Jvm.Cond.methodLink "java/util/AbstractList" (1 : Nat) ({ cls := "java/util/AbstractCollection", name := "<init>", desc := "()V" } : Jvm.MethodName)) ∈ lw_all := lw_g (lw_at lw_m1 48 rfl) rfl
theorem q69 : (Jvm.Cond.fieldLink "java/util/AbstractList" (7 : Nat) "java/util/AbstractList" "modCount" "I") ∈ lw_all := lw_g (lw_at lw_m1 58 rfl) rfl
theorem q78 : (Jvm.Cond.soleField "java/util/AbstractList" "modCount") ∈ lw_all := lw_g (lw_at lw_m1 67 rfl) rfl

/-! java/util/ArrayList -/
set_option maxRecDepth 100000
def RJ2 : String := "java/util/ArrayList"
def TJ2 : u_T := fun k => match k with
  | 0 => ("java/util/AbstractList", "modCount", "I", false)
  | 1 => ("java/util/ArrayList", "elementData", "[Ljava/lang/Object;", false)
  | _ => ("java/util/ArrayList", "size", "I", false)
def tyJ2 : Nat → FieldType := fun k => match k with
  | 0 => .int
  | 1 => .array (.object "java/lang/Object")
  | _ => .int
abbrev wsJ20 : List Cond := u_ws RJ2 TJ2 3
theorem nmJ2 : ∀ a, a < 3 → ∀ b, b < 3 → a ≠ b → (TJ2 a).2.1 ≠ (TJ2 b).2.1 := by decide +kernel
theorem tyJ2_ok : ∀ k, k < 3 → parseFieldDescriptor (TJ2 k).2.2.1 = some (tyJ2 k) := by decide +kernel
abbrev cJ2_init : ByteArray := prog_33_method_2_code
def yJ2_init : MethodName := ⟨RJ2, "<init>", "()V"⟩
theorem dJ2_init_0 : decode cJ2_init 0 = .ok (.aload_n 0, 1) := by decide +kernel
theorem dJ2_init_1 : decode cJ2_init 1 = .ok (.invokespecial 1, 3) := by decide +kernel
theorem dJ2_init_4 : decode cJ2_init 4 = .ok (.aload_n 0, 1) := by decide +kernel
theorem dJ2_init_5 : decode cJ2_init 5 = .ok (.getstatic 39, 3) := by decide +kernel
theorem dJ2_init_8 : decode cJ2_init 8 = .ok (.putfield 9, 3) := by decide +kernel
theorem dJ2_init_11 : decode cJ2_init 11 = .ok (.return_, 1) := by decide +kernel
abbrev cJ2_add : ByteArray := prog_33_method_25_code
def yJ2_add : MethodName := ⟨RJ2, "add", "(Ljava/lang/Object;)Z"⟩
theorem dJ2_add_0 : decode cJ2_add 0 = .ok (.aload_n 0, 1) := by decide +kernel
theorem dJ2_add_1 : decode cJ2_add 1 = .ok (.dup, 1) := by decide +kernel
theorem dJ2_add_2 : decode cJ2_add 2 = .ok (.getfield 63, 3) := by decide +kernel
theorem dJ2_add_5 : decode cJ2_add 5 = .ok (.iconst 1, 1) := by decide +kernel
theorem dJ2_add_6 : decode cJ2_add 6 = .ok (.iadd, 1) := by decide +kernel
theorem dJ2_add_7 : decode cJ2_add 7 = .ok (.putfield 63, 3) := by decide +kernel
theorem dJ2_add_10 : decode cJ2_add 10 = .ok (.aload_n 0, 1) := by decide +kernel
theorem dJ2_add_11 : decode cJ2_add 11 = .ok (.aload_n 1, 1) := by decide +kernel
theorem dJ2_add_12 : decode cJ2_add 12 = .ok (.aload_n 0, 1) := by decide +kernel
theorem dJ2_add_13 : decode cJ2_add 13 = .ok (.getfield 9, 3) := by decide +kernel
theorem dJ2_add_16 : decode cJ2_add 16 = .ok (.aload_n 0, 1) := by decide +kernel
theorem dJ2_add_17 : decode cJ2_add 17 = .ok (.getfield 48, 3) := by decide +kernel
theorem dJ2_add_20 : decode cJ2_add 20 = .ok (.invokevirtual 131, 3) := by decide +kernel
theorem dJ2_add_23 : decode cJ2_add 23 = .ok (.iconst 1, 1) := by decide +kernel
theorem dJ2_add_24 : decode cJ2_add 24 = .ok (.ireturn, 1) := by decide +kernel
abbrev cJ2_add_2 : ByteArray := prog_33_method_24_code
def yJ2_add_2 : MethodName := ⟨RJ2, "add", "(Ljava/lang/Object;[Ljava/lang/Object;I)V"⟩
theorem dJ2_add_2_0 : decode cJ2_add_2 0 = .ok (.iload_n 3, 1) := by decide +kernel
theorem dJ2_add_2_1 : decode cJ2_add_2 1 = .ok (.aload_n 2, 1) := by decide +kernel
theorem dJ2_add_2_2 : decode cJ2_add_2 2 = .ok (.arraylength, 1) := by decide +kernel
theorem dJ2_add_2_3 : decode cJ2_add_2 3 = .ok (.if_icmp .ne 8, 3) := by decide +kernel
theorem dJ2_add_2_6 : decode cJ2_add_2 6 = .ok (.aload_n 0, 1) := by decide +kernel
theorem dJ2_add_2_7 : decode cJ2_add_2 7 = .ok (.invokevirtual 129, 3) := by decide +kernel
theorem dJ2_add_2_10 : decode cJ2_add_2 10 = .ok (.astore_n 2, 1) := by decide +kernel
theorem dJ2_add_2_11 : decode cJ2_add_2 11 = .ok (.aload_n 2, 1) := by decide +kernel
theorem dJ2_add_2_12 : decode cJ2_add_2 12 = .ok (.iload_n 3, 1) := by decide +kernel
theorem dJ2_add_2_13 : decode cJ2_add_2 13 = .ok (.aload_n 1, 1) := by decide +kernel
theorem dJ2_add_2_14 : decode cJ2_add_2 14 = .ok (.aastore, 1) := by decide +kernel
theorem dJ2_add_2_15 : decode cJ2_add_2 15 = .ok (.aload_n 0, 1) := by decide +kernel
theorem dJ2_add_2_16 : decode cJ2_add_2 16 = .ok (.iload_n 3, 1) := by decide +kernel
theorem dJ2_add_2_17 : decode cJ2_add_2 17 = .ok (.iconst 1, 1) := by decide +kernel
theorem dJ2_add_2_18 : decode cJ2_add_2 18 = .ok (.iadd, 1) := by decide +kernel
theorem dJ2_add_2_19 : decode cJ2_add_2 19 = .ok (.putfield 48, 3) := by decide +kernel
theorem dJ2_add_2_22 : decode cJ2_add_2 22 = .ok (.return_, 1) := by decide +kernel
abbrev cJ2_grow : ByteArray := prog_33_method_7_code
def yJ2_grow : MethodName := ⟨RJ2, "grow", "()[Ljava/lang/Object;"⟩
theorem dJ2_grow_0 : decode cJ2_grow 0 = .ok (.aload_n 0, 1) := by decide +kernel
theorem dJ2_grow_1 : decode cJ2_grow 1 = .ok (.aload_n 0, 1) := by decide +kernel
theorem dJ2_grow_2 : decode cJ2_grow 2 = .ok (.getfield 48, 3) := by decide +kernel
theorem dJ2_grow_5 : decode cJ2_grow 5 = .ok (.iconst 1, 1) := by decide +kernel
theorem dJ2_grow_6 : decode cJ2_grow 6 = .ok (.iadd, 1) := by decide +kernel
theorem dJ2_grow_7 : decode cJ2_grow 7 = .ok (.invokevirtual 69, 3) := by decide +kernel
theorem dJ2_grow_10 : decode cJ2_grow 10 = .ok (.areturn, 1) := by decide +kernel
abbrev cJ2_grow_2 : ByteArray := prog_33_method_6_code
def yJ2_grow_2 : MethodName := ⟨RJ2, "grow", "(I)[Ljava/lang/Object;"⟩
theorem dJ2_grow_2_0 : decode cJ2_grow_2 0 = .ok (.aload_n 0, 1) := by decide +kernel
theorem dJ2_grow_2_1 : decode cJ2_grow_2 1 = .ok (.getfield 9, 3) := by decide +kernel
theorem dJ2_grow_2_4 : decode cJ2_grow_2 4 = .ok (.arraylength, 1) := by decide +kernel
theorem dJ2_grow_2_5 : decode cJ2_grow_2 5 = .ok (.istore_n 2, 1) := by decide +kernel
theorem dJ2_grow_2_6 : decode cJ2_grow_2 6 = .ok (.iload_n 2, 1) := by decide +kernel
theorem dJ2_grow_2_7 : decode cJ2_grow_2 7 = .ok (.ifCond .gt 13, 3) := by decide +kernel
theorem dJ2_grow_2_10 : decode cJ2_grow_2 10 = .ok (.aload_n 0, 1) := by decide +kernel
theorem dJ2_grow_2_11 : decode cJ2_grow_2 11 = .ok (.getfield 9, 3) := by decide +kernel
theorem dJ2_grow_2_14 : decode cJ2_grow_2 14 = .ok (.getstatic 39, 3) := by decide +kernel
theorem dJ2_grow_2_17 : decode cJ2_grow_2 17 = .ok (.if_acmp .eq 28, 3) := by decide +kernel
theorem dJ2_grow_2_20 : decode cJ2_grow_2 20 = .ok (.iload_n 2, 1) := by decide +kernel
theorem dJ2_grow_2_21 : decode cJ2_grow_2 21 = .ok (.iload_n 1, 1) := by decide +kernel
theorem dJ2_grow_2_22 : decode cJ2_grow_2 22 = .ok (.iload_n 2, 1) := by decide +kernel
theorem dJ2_grow_2_23 : decode cJ2_grow_2 23 = .ok (.isub, 1) := by decide +kernel
theorem dJ2_grow_2_24 : decode cJ2_grow_2 24 = .ok (.iload_n 2, 1) := by decide +kernel
theorem dJ2_grow_2_25 : decode cJ2_grow_2 25 = .ok (.iconst 1, 1) := by decide +kernel
theorem dJ2_grow_2_26 : decode cJ2_grow_2 26 = .ok (.ishr, 1) := by decide +kernel
theorem dJ2_grow_2_27 : decode cJ2_grow_2 27 = .ok (.invokestatic 73, 3) := by decide +kernel
theorem dJ2_grow_2_30 : decode cJ2_grow_2 30 = .ok (.istore_n 3, 1) := by decide +kernel
theorem dJ2_grow_2_31 : decode cJ2_grow_2 31 = .ok (.aload_n 0, 1) := by decide +kernel
theorem dJ2_grow_2_32 : decode cJ2_grow_2 32 = .ok (.aload_n 0, 1) := by decide +kernel
theorem dJ2_grow_2_33 : decode cJ2_grow_2 33 = .ok (.getfield 9, 3) := by decide +kernel
theorem dJ2_grow_2_36 : decode cJ2_grow_2 36 = .ok (.iload_n 3, 1) := by decide +kernel
theorem dJ2_grow_2_37 : decode cJ2_grow_2 37 = .ok (.invokestatic 66, 3) := by decide +kernel
theorem dJ2_grow_2_40 : decode cJ2_grow_2 40 = .ok (.dup_x1, 1) := by decide +kernel
theorem dJ2_grow_2_41 : decode cJ2_grow_2 41 = .ok (.putfield 9, 3) := by decide +kernel
theorem dJ2_grow_2_44 : decode cJ2_grow_2 44 = .ok (.areturn, 1) := by decide +kernel
theorem dJ2_grow_2_45 : decode cJ2_grow_2 45 = .ok (.aload_n 0, 1) := by decide +kernel
theorem dJ2_grow_2_46 : decode cJ2_grow_2 46 = .ok (.bipush 10, 2) := by decide +kernel
theorem dJ2_grow_2_48 : decode cJ2_grow_2 48 = .ok (.iload_n 1, 1) := by decide +kernel
theorem dJ2_grow_2_49 : decode cJ2_grow_2 49 = .ok (.invokestatic 79, 3) := by decide +kernel
theorem dJ2_grow_2_52 : decode cJ2_grow_2 52 = .ok (.anewarray 7, 3) := by decide +kernel
theorem dJ2_grow_2_55 : decode cJ2_grow_2 55 = .ok (.dup_x1, 1) := by decide +kernel
theorem dJ2_grow_2_56 : decode cJ2_grow_2 56 = .ok (.putfield 9, 3) := by decide +kernel
theorem dJ2_grow_2_59 : decode cJ2_grow_2 59 = .ok (.areturn, 1) := by decide +kernel
abbrev cJ2_get : ByteArray := prog_33_method_20_code
def yJ2_get : MethodName := ⟨RJ2, "get", "(I)Ljava/lang/Object;"⟩
theorem dJ2_get_0 : decode cJ2_get 0 = .ok (.iload_n 1, 1) := by decide +kernel
theorem dJ2_get_1 : decode cJ2_get 1 = .ok (.aload_n 0, 1) := by decide +kernel
theorem dJ2_get_2 : decode cJ2_get 2 = .ok (.getfield 48, 3) := by decide +kernel
theorem dJ2_get_5 : decode cJ2_get 5 = .ok (.invokestatic 118, 3) := by decide +kernel
theorem dJ2_get_8 : decode cJ2_get 8 = .ok (.pop, 1) := by decide +kernel
theorem dJ2_get_9 : decode cJ2_get 9 = .ok (.aload_n 0, 1) := by decide +kernel
theorem dJ2_get_10 : decode cJ2_get 10 = .ok (.iload_n 1, 1) := by decide +kernel
theorem dJ2_get_11 : decode cJ2_get 11 = .ok (.invokevirtual 123, 3) := by decide +kernel
theorem dJ2_get_14 : decode cJ2_get 14 = .ok (.areturn, 1) := by decide +kernel
abbrev cJ2_elementData : ByteArray := prog_33_method_18_code
def yJ2_elementData : MethodName := ⟨RJ2, "elementData", "(I)Ljava/lang/Object;"⟩
theorem dJ2_elementData_0 : decode cJ2_elementData 0 = .ok (.aload_n 0, 1) := by decide +kernel
theorem dJ2_elementData_1 : decode cJ2_elementData 1 = .ok (.getfield 9, 3) := by decide +kernel
theorem dJ2_elementData_4 : decode cJ2_elementData 4 = .ok (.iload_n 1, 1) := by decide +kernel
theorem dJ2_elementData_5 : decode cJ2_elementData 5 = .ok (.aaload, 1) := by decide +kernel
theorem dJ2_elementData_6 : decode cJ2_elementData 6 = .ok (.areturn, 1) := by decide +kernel
abbrev cJ2_size : ByteArray := prog_33_method_8_code
def yJ2_size : MethodName := ⟨RJ2, "size", "()I"⟩
theorem dJ2_size_0 : decode cJ2_size 0 = .ok (.aload_n 0, 1) := by decide +kernel
theorem dJ2_size_1 : decode cJ2_size 1 = .ok (.getfield 48, 3) := by decide +kernel
theorem dJ2_size_4 : decode cJ2_size 4 = .ok (.ireturn, 1) := by decide +kernel
abbrev cJ2_isEmpty : ByteArray := prog_33_method_9_code
def yJ2_isEmpty : MethodName := ⟨RJ2, "isEmpty", "()Z"⟩
theorem dJ2_isEmpty_0 : decode cJ2_isEmpty 0 = .ok (.aload_n 0, 1) := by decide +kernel
theorem dJ2_isEmpty_1 : decode cJ2_isEmpty 1 = .ok (.getfield 48, 3) := by decide +kernel
theorem dJ2_isEmpty_4 : decode cJ2_isEmpty 4 = .ok (.ifCond .ne 7, 3) := by decide +kernel
theorem dJ2_isEmpty_7 : decode cJ2_isEmpty 7 = .ok (.iconst 1, 1) := by decide +kernel
theorem dJ2_isEmpty_8 : decode cJ2_isEmpty 8 = .ok (.goto 4, 3) := by decide +kernel
theorem dJ2_isEmpty_11 : decode cJ2_isEmpty 11 = .ok (.iconst 0, 1) := by decide +kernel
theorem dJ2_isEmpty_12 : decode cJ2_isEmpty 12 = .ok (.ireturn, 1) := by decide +kernel
abbrev cJ2_iterator : ByteArray := prog_33_method_55_code
def yJ2_iterator : MethodName := ⟨RJ2, "iterator", "()Ljava/util/Iterator;"⟩
theorem dJ2_iterator_0 : decode cJ2_iterator 0 = .ok (.new 267, 3) := by decide +kernel
theorem dJ2_iterator_3 : decode cJ2_iterator 3 = .ok (.dup, 1) := by decide +kernel
theorem dJ2_iterator_4 : decode cJ2_iterator 4 = .ok (.aload_n 0, 1) := by decide +kernel
theorem dJ2_iterator_5 : decode cJ2_iterator 5 = .ok (.invokespecial 269, 3) := by decide +kernel
theorem dJ2_iterator_8 : decode cJ2_iterator 8 = .ok (.areturn, 1) := by decide +kernel
abbrev cJ2_clear : ByteArray := prog_33_method_40_code
def yJ2_clear : MethodName := ⟨RJ2, "clear", "()V"⟩
theorem dJ2_clear_0 : decode cJ2_clear 0 = .ok (.aload_n 0, 1) := by decide +kernel
theorem dJ2_clear_1 : decode cJ2_clear 1 = .ok (.dup, 1) := by decide +kernel
theorem dJ2_clear_2 : decode cJ2_clear 2 = .ok (.getfield 63, 3) := by decide +kernel
theorem dJ2_clear_5 : decode cJ2_clear 5 = .ok (.iconst 1, 1) := by decide +kernel
theorem dJ2_clear_6 : decode cJ2_clear 6 = .ok (.iadd, 1) := by decide +kernel
theorem dJ2_clear_7 : decode cJ2_clear 7 = .ok (.putfield 63, 3) := by decide +kernel
theorem dJ2_clear_10 : decode cJ2_clear 10 = .ok (.aload_n 0, 1) := by decide +kernel
theorem dJ2_clear_11 : decode cJ2_clear 11 = .ok (.getfield 9, 3) := by decide +kernel
theorem dJ2_clear_14 : decode cJ2_clear 14 = .ok (.astore_n 1, 1) := by decide +kernel
theorem dJ2_clear_15 : decode cJ2_clear 15 = .ok (.aload_n 0, 1) := by decide +kernel
theorem dJ2_clear_16 : decode cJ2_clear 16 = .ok (.getfield 48, 3) := by decide +kernel
theorem dJ2_clear_19 : decode cJ2_clear 19 = .ok (.istore_n 2, 1) := by decide +kernel
theorem dJ2_clear_20 : decode cJ2_clear 20 = .ok (.aload_n 0, 1) := by decide +kernel
theorem dJ2_clear_21 : decode cJ2_clear 21 = .ok (.iconst 0, 1) := by decide +kernel
theorem dJ2_clear_22 : decode cJ2_clear 22 = .ok (.dup_x1, 1) := by decide +kernel
theorem dJ2_clear_23 : decode cJ2_clear 23 = .ok (.putfield 48, 3) := by decide +kernel
theorem dJ2_clear_26 : decode cJ2_clear 26 = .ok (.istore_n 3, 1) := by decide +kernel
theorem dJ2_clear_27 : decode cJ2_clear 27 = .ok (.iload_n 3, 1) := by decide +kernel
theorem dJ2_clear_28 : decode cJ2_clear 28 = .ok (.iload_n 2, 1) := by decide +kernel
theorem dJ2_clear_29 : decode cJ2_clear 29 = .ok (.if_icmp .ge 13, 3) := by decide +kernel
theorem dJ2_clear_32 : decode cJ2_clear 32 = .ok (.aload_n 1, 1) := by decide +kernel
theorem dJ2_clear_33 : decode cJ2_clear 33 = .ok (.iload_n 3, 1) := by decide +kernel
theorem dJ2_clear_34 : decode cJ2_clear 34 = .ok (.aconst_null, 1) := by decide +kernel
theorem dJ2_clear_35 : decode cJ2_clear 35 = .ok (.aastore, 1) := by decide +kernel
theorem dJ2_clear_36 : decode cJ2_clear 36 = .ok (.iinc 3 1, 3) := by decide +kernel
theorem dJ2_clear_39 : decode cJ2_clear 39 = .ok (.goto (-12), 3) := by decide +kernel
theorem dJ2_clear_42 : decode cJ2_clear 42 = .ok (.return_, 1) := by decide +kernel
theorem q15 : (Jvm.Cond.initialized "java/util/ArrayList") ∈ lw_all := lw_g (lw_at lw_m1 4 rfl) rfl
theorem q52 : (Jvm.Cond.instantiable "java/util/ArrayList" (3 : Nat)) ∈ lw_all := lw_g (lw_at lw_m1 41 rfl) rfl
theorem q54 : (Jvm.Cond.instanceMethod ({ cls := "java/util/ArrayList", name := "<init>", desc := "()V" } : Jvm.MethodName)) ∈ lw_all := lw_g (lw_at lw_m1 43 rfl) rfl
theorem q55 : (Jvm.Cond.code ({ cls := "java/util/ArrayList", name := "<init>", desc := "()V" } : Jvm.MethodName) prog_33_method_2_code (1 : Nat) (Option.none : Option Jvm.ClassFile.FieldType)) ∈ lw_all := lw_g (lw_at lw_m1 44 rfl) rfl
theorem q56 : (Jvm.Cond.methodLink "java/util/ArrayList" (1 : Nat) ({ cls := "java/util/AbstractList", name := "<init>", desc := "()V" } : Jvm.MethodName)) ∈ lw_all := lw_g (lw_at lw_m1 45 rfl) rfl
theorem q63 : (Jvm.Cond.fieldLink "java/util/ArrayList" (39 : Nat) "java/util/ArrayList" "DEFAULTCAPACITY_EMPTY_ELEMENTDATA" "[Ljava/lang/Object;") ∈ lw_all := lw_g (lw_at lw_m1 52 rfl) rfl
theorem q64 : (Jvm.Cond.laysStatic "java/util/ArrayList" "DEFAULTCAPACITY_EMPTY_ELEMENTDATA" "[Ljava/lang/Object;") ∈ lw_tbl := lw_at lw_m1 53 rfl
theorem q65 : (Jvm.Cond.fieldLink "java/util/ArrayList" (9 : Nat) "java/util/ArrayList" "elementData" "[Ljava/lang/Object;") ∈ lw_all := lw_g (lw_at lw_m1 54 rfl) rfl
theorem q68 : (Jvm.Cond.fieldLink "java/util/ArrayList" (48 : Nat) "java/util/ArrayList" "size" "I") ∈ lw_all := lw_g (lw_at lw_m1 57 rfl) rfl
theorem q71 : (Jvm.Cond.sameField "java/util/ArrayList" "java/util/AbstractList" "modCount" "I") ∈ lw_all := lw_g (lw_at lw_m1 60 rfl) rfl
theorem q72 : (Jvm.Cond.fieldLink "java/util/ArrayList" (63 : Nat) "java/util/ArrayList" "modCount" "I") ∈ lw_all := lw_g (lw_at lw_m1 61 rfl) rfl
theorem q73 : (Jvm.Cond.lays "java/util/ArrayList" "java/util/ArrayList" "elementData" "[Ljava/lang/Object;") ∈ lw_all := lw_g (lw_at lw_m1 62 rfl) rfl
theorem q74 : (Jvm.Cond.soleField "java/util/ArrayList" "elementData") ∈ lw_all := lw_g (lw_at lw_m1 63 rfl) rfl
theorem q75 : (Jvm.Cond.lays "java/util/ArrayList" "java/util/ArrayList" "size" "I") ∈ lw_all := lw_g (lw_at lw_m1 64 rfl) rfl
theorem q76 : (Jvm.Cond.soleField "java/util/ArrayList" "size") ∈ lw_all := lw_g (lw_at lw_m1 65 rfl) rfl
theorem q77 : (Jvm.Cond.lays "java/util/ArrayList" "java/util/AbstractList" "modCount" "I") ∈ lw_all := lw_g (lw_at lw_m1 66 rfl) rfl
theorem q79 : (Jvm.Cond.superclass "java/util/ArrayList" "java/util/AbstractList") ∈ lw_all := lw_g (lw_at lw_m1 68 rfl) rfl
theorem q83 : (Jvm.Cond.instanceMethod ({ cls := "java/util/ArrayList", name := "add", desc := "(Ljava/lang/Object;)Z" } : Jvm.MethodName)) ∈ lw_all := lw_g (lw_at lw_m1 72 rfl) rfl
theorem q84 : (Jvm.Cond.selects "java/util/ArrayList" ({ cls := "java/util/ArrayList", name := "add", desc := "(Ljava/lang/Object;)Z" } : Jvm.MethodName) ({ cls := "java/util/ArrayList", name := "add", desc := "(Ljava/lang/Object;)Z" } : Jvm.MethodName)) ∈ lw_all := lw_g (lw_at lw_m1 73 rfl) rfl
theorem q85 : (Jvm.Cond.code ({ cls := "java/util/ArrayList", name := "add", desc := "(Ljava/lang/Object;)Z" } : Jvm.MethodName) prog_33_method_25_code (2 : Nat) (Option.some Jvm.ClassFile.FieldType.boolean)) ∈ lw_all := lw_g (lw_at lw_m1 74 rfl) rfl
theorem q86 : (Jvm.Cond.methodLink "java/util/ArrayList" (131 : Nat) ({ cls := "java/util/ArrayList", name := "add", desc := "(Ljava/lang/Object;[Ljava/lang/Object;I)V" } : Jvm.MethodName)) ∈ lw_all := lw_g (lw_at lw_m1 75 rfl) rfl
theorem q87 : (Jvm.Cond.privateMethod ({ cls := "java/util/ArrayList", name := "add", desc := "(Ljava/lang/Object;[Ljava/lang/Object;I)V" } : Jvm.MethodName)) ∈ lw_tbl := lw_at lw_m1 76 rfl
theorem q88 : (Jvm.Cond.instanceMethod ({ cls := "java/util/ArrayList", name := "add", desc := "(Ljava/lang/Object;[Ljava/lang/Object;I)V" } : Jvm.MethodName)) ∈ lw_all := lw_g (lw_at lw_m1 77 rfl) rfl
theorem q89 : (Jvm.Cond.code ({ cls := "java/util/ArrayList", name := "add", desc := "(Ljava/lang/Object;[Ljava/lang/Object;I)V" } : Jvm.MethodName) prog_33_method_24_code (4 : Nat) (Option.none : Option Jvm.ClassFile.FieldType)) ∈ lw_all := lw_g (lw_at lw_m1 78 rfl) rfl
theorem q90 : (Jvm.Cond.methodLink "java/util/ArrayList" (129 : Nat) ({ cls := "java/util/ArrayList", name := "grow", desc := "()[Ljava/lang/Object;" } : Jvm.MethodName)) ∈ lw_all := lw_g (lw_at lw_m1 79 rfl) rfl
theorem q91 : (Jvm.Cond.privateMethod ({ cls := "java/util/ArrayList", name := "grow", desc := "()[Ljava/lang/Object;" } : Jvm.MethodName)) ∈ lw_tbl := lw_at lw_m1 80 rfl
theorem q92 : (Jvm.Cond.instanceMethod ({ cls := "java/util/ArrayList", name := "grow", desc := "()[Ljava/lang/Object;" } : Jvm.MethodName)) ∈ lw_all := lw_g (lw_at lw_m1 81 rfl) rfl
theorem q93 : (Jvm.Cond.code ({ cls := "java/util/ArrayList", name := "grow", desc := "()[Ljava/lang/Object;" } : Jvm.MethodName) prog_33_method_7_code (1 : Nat) (Option.some (Jvm.ClassFile.FieldType.array (Jvm.ClassFile.FieldType.object "java/lang/Object")))) ∈ lw_all := lw_g (lw_at lw_m1 82 rfl) rfl
theorem q94 : (Jvm.Cond.methodLink "java/util/ArrayList" (69 : Nat) ({ cls := "java/util/ArrayList", name := "grow", desc := "(I)[Ljava/lang/Object;" } : Jvm.MethodName)) ∈ lw_all := lw_g (lw_at lw_m1 83 rfl) rfl
theorem q95 : (Jvm.Cond.privateMethod ({ cls := "java/util/ArrayList", name := "grow", desc := "(I)[Ljava/lang/Object;" } : Jvm.MethodName)) ∈ lw_tbl := lw_at lw_m1 84 rfl
theorem q96 : (Jvm.Cond.instanceMethod ({ cls := "java/util/ArrayList", name := "grow", desc := "(I)[Ljava/lang/Object;" } : Jvm.MethodName)) ∈ lw_all := lw_g (lw_at lw_m1 85 rfl) rfl
theorem q97 : (Jvm.Cond.code ({ cls := "java/util/ArrayList", name := "grow", desc := "(I)[Ljava/lang/Object;" } : Jvm.MethodName) prog_33_method_6_code (4 : Nat) (Option.some (Jvm.ClassFile.FieldType.array (Jvm.ClassFile.FieldType.object "java/lang/Object")))) ∈ lw_all := lw_g (lw_at lw_m1 86 rfl) rfl
theorem q98 : (Jvm.Cond.methodLink "java/util/ArrayList" (73 : Nat) ({ cls := "jdk/internal/util/ArraysSupport", name := "newLength", desc := "(III)I" } : Jvm.MethodName)) ∈ lw_all := lw_g (lw_at lw_m1 87 rfl) rfl
theorem q108 : (Jvm.Cond.methodLink "java/util/ArrayList" (66 : Nat) ({ cls := "java/util/Arrays", name := "copyOf", desc := "([Ljava/lang/Object;I)[Ljava/lang/Object;" } : Jvm.MethodName)) ∈ lw_all := lw_g (lw_at lw_m1 97 rfl) rfl
theorem q126 : (Jvm.Cond.selects "java/util/ArrayList" ({ cls := "java/lang/Object", name := "getClass", desc := "()Ljava/lang/Class;" } : Jvm.MethodName) ({ cls := "java/lang/Object", name := "getClass", desc := "()Ljava/lang/Class;" } : Jvm.MethodName)) ∈ lw_all := lw_g (lw_at lw_m1 115 rfl) rfl
theorem q141 : (Jvm.Cond.methodLink "java/util/ArrayList" (79 : Nat) ({ cls := "java/lang/Math", name := "max", desc := "(II)I" } : Jvm.MethodName)) ∈ lw_all := lw_g (lw_at lw_m1 130 rfl) rfl
theorem q142 : (Jvm.Cond.classLink "java/util/ArrayList" (7 : Nat) "java/lang/Object") ∈ lw_all := lw_g (lw_at lw_m1 131 rfl) rfl
theorem q190 : (Jvm.Cond.instanceMethod ({ cls := "java/util/ArrayList", name := "get", desc := "(I)Ljava/lang/Object;" } : Jvm.MethodName)) ∈ lw_all := lw_g (lw_at lw_m1 179 rfl) rfl
theorem q191 : (Jvm.Cond.selects "java/util/ArrayList" ({ cls := "java/util/ArrayList", name := "get", desc := "(I)Ljava/lang/Object;" } : Jvm.MethodName) ({ cls := "java/util/ArrayList", name := "get", desc := "(I)Ljava/lang/Object;" } : Jvm.MethodName)) ∈ lw_all := lw_g (lw_at lw_m1 180 rfl) rfl
theorem q192 : (Jvm.Cond.code ({ cls := "java/util/ArrayList", name := "get", desc := "(I)Ljava/lang/Object;" } : Jvm.MethodName) prog_33_method_20_code (2 : Nat) (Option.some (Jvm.ClassFile.FieldType.object "java/lang/Object"))) ∈ lw_all := lw_g (lw_at lw_m1 181 rfl) rfl
theorem q193 : (Jvm.Cond.methodLink "java/util/ArrayList" (118 : Nat) ({ cls := "java/util/Objects", name := "checkIndex", desc := "(II)I" } : Jvm.MethodName)) ∈ lw_all := lw_g (lw_at lw_m1 182 rfl) rfl
theorem q199 : (Jvm.Cond.methodLink "java/util/ArrayList" (123 : Nat) ({ cls := "java/util/ArrayList", name := "elementData", desc := "(I)Ljava/lang/Object;" } : Jvm.MethodName)) ∈ lw_all := lw_g (lw_at lw_m1 188 rfl) rfl
theorem q200 : (Jvm.Cond.instanceMethod ({ cls := "java/util/ArrayList", name := "elementData", desc := "(I)Ljava/lang/Object;" } : Jvm.MethodName)) ∈ lw_all := lw_g (lw_at lw_m1 189 rfl) rfl
theorem q201 : (Jvm.Cond.selects "java/util/ArrayList" ({ cls := "java/util/ArrayList", name := "elementData", desc := "(I)Ljava/lang/Object;" } : Jvm.MethodName) ({ cls := "java/util/ArrayList", name := "elementData", desc := "(I)Ljava/lang/Object;" } : Jvm.MethodName)) ∈ lw_all := lw_g (lw_at lw_m1 190 rfl) rfl
theorem q202 : (Jvm.Cond.code ({ cls := "java/util/ArrayList", name := "elementData", desc := "(I)Ljava/lang/Object;" } : Jvm.MethodName) prog_33_method_18_code (2 : Nat) (Option.some (Jvm.ClassFile.FieldType.object "java/lang/Object"))) ∈ lw_all := lw_g (lw_at lw_m1 191 rfl) rfl
theorem q204 : (Jvm.Cond.instanceMethod ({ cls := "java/util/ArrayList", name := "size", desc := "()I" } : Jvm.MethodName)) ∈ lw_all := lw_g (lw_at lw_m1 193 rfl) rfl
theorem q205 : (Jvm.Cond.selects "java/util/ArrayList" ({ cls := "java/util/ArrayList", name := "size", desc := "()I" } : Jvm.MethodName) ({ cls := "java/util/ArrayList", name := "size", desc := "()I" } : Jvm.MethodName)) ∈ lw_all := lw_g (lw_at lw_m1 194 rfl) rfl
theorem q206 : (Jvm.Cond.code ({ cls := "java/util/ArrayList", name := "size", desc := "()I" } : Jvm.MethodName) prog_33_method_8_code (1 : Nat) (Option.some Jvm.ClassFile.FieldType.int)) ∈ lw_all := lw_g (lw_at lw_m1 195 rfl) rfl
theorem q288 : (Jvm.Cond.instanceMethod ({ cls := "java/util/ArrayList", name := "isEmpty", desc := "()Z" } : Jvm.MethodName)) ∈ lw_all := lw_g (lw_at lw_m2 37 rfl) rfl
theorem q289 : (Jvm.Cond.selects "java/util/ArrayList" ({ cls := "java/util/ArrayList", name := "isEmpty", desc := "()Z" } : Jvm.MethodName) ({ cls := "java/util/ArrayList", name := "isEmpty", desc := "()Z" } : Jvm.MethodName)) ∈ lw_all := lw_g (lw_at lw_m2 38 rfl) rfl
theorem q290 : (Jvm.Cond.code ({ cls := "java/util/ArrayList", name := "isEmpty", desc := "()Z" } : Jvm.MethodName) prog_33_method_9_code (1 : Nat) (Option.some Jvm.ClassFile.FieldType.boolean)) ∈ lw_all := lw_g (lw_at lw_m2 39 rfl) rfl
theorem q475 : (Jvm.Cond.instanceMethod ({ cls := "java/util/ArrayList", name := "iterator", desc := "()Ljava/util/Iterator;" } : Jvm.MethodName)) ∈ lw_all := lw_g (lw_at lw_m2 224 rfl) rfl
theorem q476 : (Jvm.Cond.selects "java/util/ArrayList" ({ cls := "java/util/ArrayList", name := "iterator", desc := "()Ljava/util/Iterator;" } : Jvm.MethodName) ({ cls := "java/util/ArrayList", name := "iterator", desc := "()Ljava/util/Iterator;" } : Jvm.MethodName)) ∈ lw_all := lw_g (lw_at lw_m2 225 rfl) rfl
theorem q477 : (Jvm.Cond.code ({ cls := "java/util/ArrayList", name := "iterator", desc := "()Ljava/util/Iterator;" } : Jvm.MethodName) prog_33_method_55_code (1 : Nat) (Option.some (Jvm.ClassFile.FieldType.object "java/util/Iterator"))) ∈ lw_all := lw_g (lw_at lw_m2 226 rfl) rfl
theorem q478 : (Jvm.Cond.classLink "java/util/ArrayList" (267 : Nat) "java/util/ArrayList$Itr") ∈ lw_all := lw_g (lw_at lw_m2 227 rfl) rfl
theorem q480 : (Jvm.Cond.methodLink "java/util/ArrayList" (269 : Nat) ({ cls := "java/util/ArrayList$Itr", name := "<init>", desc := "(Ljava/util/ArrayList;)V" } : Jvm.MethodName)) ∈ lw_all := lw_g (lw_at lw_m2 229 rfl) rfl
theorem q527 : (Jvm.Cond.instanceMethod ({ cls := "java/util/ArrayList", name := "clear", desc := "()V" } : Jvm.MethodName)) ∈ lw_all := lw_g (lw_at lw_m3 36 rfl) rfl
theorem q528 : (Jvm.Cond.selects "java/util/ArrayList" ({ cls := "java/util/ArrayList", name := "clear", desc := "()V" } : Jvm.MethodName) ({ cls := "java/util/ArrayList", name := "clear", desc := "()V" } : Jvm.MethodName)) ∈ lw_all := lw_g (lw_at lw_m3 37 rfl) rfl
theorem q529 : (Jvm.Cond.code ({ cls := "java/util/ArrayList", name := "clear", desc := "()V" } : Jvm.MethodName) prog_33_method_40_code (4 : Nat) (Option.none : Option Jvm.ClassFile.FieldType)) ∈ lw_all := lw_g (lw_at lw_m3 38 rfl) rfl
theorem q662 : (Jvm.Cond.castable "java/util/ArrayList" "java/lang/Object") ∈ lw_tbl := lw_at lw_m3 171 rfl
theorem in_J2 : ∀ w ∈ wsJ20, w ∈ lw_all := lw_in wsJ20 [77, 73, 75] (by decide +kernel) (by decide +kernel)

/-! jdk/internal/util/ArraysSupport -/
set_option maxRecDepth 100000
def RJ3 : String := "jdk/internal/util/ArraysSupport"
abbrev cJ3_newLength : ByteArray := prog_42_method_27_code
def yJ3_newLength : MethodName := ⟨RJ3, "newLength", "(III)I"⟩
theorem dJ3_newLength_0 : decode cJ3_newLength 0 = .ok (.iload_n 0, 1) := by decide +kernel
theorem dJ3_newLength_1 : decode cJ3_newLength 1 = .ok (.iload_n 1, 1) := by decide +kernel
theorem dJ3_newLength_2 : decode cJ3_newLength 2 = .ok (.iload_n 2, 1) := by decide +kernel
theorem dJ3_newLength_3 : decode cJ3_newLength 3 = .ok (.invokestatic 194, 3) := by decide +kernel
theorem dJ3_newLength_6 : decode cJ3_newLength 6 = .ok (.iadd, 1) := by decide +kernel
theorem dJ3_newLength_7 : decode cJ3_newLength 7 = .ok (.istore_n 3, 1) := by decide +kernel
theorem dJ3_newLength_8 : decode cJ3_newLength 8 = .ok (.iconst 0, 1) := by decide +kernel
theorem dJ3_newLength_9 : decode cJ3_newLength 9 = .ok (.iload_n 3, 1) := by decide +kernel
theorem dJ3_newLength_10 : decode cJ3_newLength 10 = .ok (.if_icmp .ge 11, 3) := by decide +kernel
theorem dJ3_newLength_13 : decode cJ3_newLength 13 = .ok (.iload_n 3, 1) := by decide +kernel
theorem dJ3_newLength_14 : decode cJ3_newLength 14 = .ok (.ldc 200, 2) := by decide +kernel
theorem dJ3_newLength_16 : decode cJ3_newLength 16 = .ok (.if_icmp .gt 5, 3) := by decide +kernel
theorem dJ3_newLength_19 : decode cJ3_newLength 19 = .ok (.iload_n 3, 1) := by decide +kernel
theorem dJ3_newLength_20 : decode cJ3_newLength 20 = .ok (.ireturn, 1) := by decide +kernel
theorem dJ3_newLength_21 : decode cJ3_newLength 21 = .ok (.iload_n 0, 1) := by decide +kernel
theorem dJ3_newLength_22 : decode cJ3_newLength 22 = .ok (.iload_n 1, 1) := by decide +kernel
theorem dJ3_newLength_23 : decode cJ3_newLength 23 = .ok (.invokestatic 201, 3) := by decide +kernel
theorem dJ3_newLength_26 : decode cJ3_newLength 26 = .ok (.ireturn, 1) := by decide +kernel
abbrev cJ3_hugeLength : ByteArray := prog_42_method_28_code
def yJ3_hugeLength : MethodName := ⟨RJ3, "hugeLength", "(II)I"⟩
theorem dJ3_hugeLength_0 : decode cJ3_hugeLength 0 = .ok (.iload_n 0, 1) := by decide +kernel
theorem dJ3_hugeLength_1 : decode cJ3_hugeLength 1 = .ok (.iload_n 1, 1) := by decide +kernel
theorem dJ3_hugeLength_2 : decode cJ3_hugeLength 2 = .ok (.iadd, 1) := by decide +kernel
theorem dJ3_hugeLength_3 : decode cJ3_hugeLength 3 = .ok (.istore_n 2, 1) := by decide +kernel
theorem dJ3_hugeLength_4 : decode cJ3_hugeLength 4 = .ok (.iload_n 2, 1) := by decide +kernel
theorem dJ3_hugeLength_5 : decode cJ3_hugeLength 5 = .ok (.ifCond .ge 44, 3) := by decide +kernel
theorem dJ3_hugeLength_8 : decode cJ3_hugeLength 8 = .ok (.new 204, 3) := by decide +kernel
theorem dJ3_hugeLength_11 : decode cJ3_hugeLength 11 = .ok (.dup, 1) := by decide +kernel
theorem dJ3_hugeLength_12 : decode cJ3_hugeLength 12 = .ok (.new 89, 3) := by decide +kernel
theorem dJ3_hugeLength_15 : decode cJ3_hugeLength 15 = .ok (.dup, 1) := by decide +kernel
theorem dJ3_hugeLength_16 : decode cJ3_hugeLength 16 = .ok (.invokespecial 91, 3) := by decide +kernel
theorem dJ3_hugeLength_19 : decode cJ3_hugeLength 19 = .ok (.ldc 206, 2) := by decide +kernel
theorem dJ3_hugeLength_21 : decode cJ3_hugeLength 21 = .ok (.invokevirtual 94, 3) := by decide +kernel
theorem dJ3_hugeLength_24 : decode cJ3_hugeLength 24 = .ok (.iload_n 0, 1) := by decide +kernel
theorem dJ3_hugeLength_25 : decode cJ3_hugeLength 25 = .ok (.invokevirtual 98, 3) := by decide +kernel
theorem dJ3_hugeLength_28 : decode cJ3_hugeLength 28 = .ok (.ldc 208, 2) := by decide +kernel
theorem dJ3_hugeLength_30 : decode cJ3_hugeLength 30 = .ok (.invokevirtual 94, 3) := by decide +kernel
theorem dJ3_hugeLength_33 : decode cJ3_hugeLength 33 = .ok (.iload_n 1, 1) := by decide +kernel
theorem dJ3_hugeLength_34 : decode cJ3_hugeLength 34 = .ok (.invokevirtual 98, 3) := by decide +kernel
theorem dJ3_hugeLength_37 : decode cJ3_hugeLength 37 = .ok (.ldc 210, 2) := by decide +kernel
theorem dJ3_hugeLength_39 : decode cJ3_hugeLength 39 = .ok (.invokevirtual 94, 3) := by decide +kernel
theorem dJ3_hugeLength_42 : decode cJ3_hugeLength 42 = .ok (.invokevirtual 101, 3) := by decide +kernel
theorem dJ3_hugeLength_45 : decode cJ3_hugeLength 45 = .ok (.invokespecial 212, 3) := by decide +kernel
theorem dJ3_hugeLength_48 : decode cJ3_hugeLength 48 = .ok (.athrow, 1) := by decide +kernel
theorem dJ3_hugeLength_49 : decode cJ3_hugeLength 49 = .ok (.iload_n 2, 1) := by decide +kernel
theorem dJ3_hugeLength_50 : decode cJ3_hugeLength 50 = .ok (.ldc 200, 2) := by decide +kernel
theorem dJ3_hugeLength_52 : decode cJ3_hugeLength 52 = .ok (.if_icmp .gt 6, 3) := by decide +kernel
theorem dJ3_hugeLength_55 : decode cJ3_hugeLength 55 = .ok (.ldc 200, 2) := by decide +kernel
theorem dJ3_hugeLength_57 : decode cJ3_hugeLength 57 = .ok (.ireturn, 1) := by decide +kernel
theorem dJ3_hugeLength_58 : decode cJ3_hugeLength 58 = .ok (.iload_n 2, 1) := by decide +kernel
theorem dJ3_hugeLength_59 : decode cJ3_hugeLength 59 = .ok (.ireturn, 1) := by decide +kernel
theorem q16 : (Jvm.Cond.initialized "jdk/internal/util/ArraysSupport") ∈ lw_all := lw_g (lw_at lw_m1 5 rfl) rfl
theorem q99 : (Jvm.Cond.static ({ cls := "jdk/internal/util/ArraysSupport", name := "newLength", desc := "(III)I" } : Jvm.MethodName)) ∈ lw_all := lw_g (lw_at lw_m1 88 rfl) rfl
theorem q100 : (Jvm.Cond.code ({ cls := "jdk/internal/util/ArraysSupport", name := "newLength", desc := "(III)I" } : Jvm.MethodName) prog_42_method_27_code (4 : Nat) (Option.some Jvm.ClassFile.FieldType.int)) ∈ lw_all := lw_g (lw_at lw_m1 89 rfl) rfl
theorem q101 : (Jvm.Cond.methodLink "jdk/internal/util/ArraysSupport" (194 : Nat) ({ cls := "java/lang/Math", name := "max", desc := "(II)I" } : Jvm.MethodName)) ∈ lw_all := lw_g (lw_at lw_m1 90 rfl) rfl
theorem q104 : (Jvm.Cond.constant "jdk/internal/util/ArraysSupport" (200 : Nat) (2147483639 : Int32)) ∈ lw_all := lw_g (lw_at lw_m1 93 rfl) rfl
theorem q105 : (Jvm.Cond.methodLink "jdk/internal/util/ArraysSupport" (201 : Nat) ({ cls := "jdk/internal/util/ArraysSupport", name := "hugeLength", desc := "(II)I" } : Jvm.MethodName)) ∈ lw_all := lw_g (lw_at lw_m1 94 rfl) rfl
theorem q106 : (Jvm.Cond.static ({ cls := "jdk/internal/util/ArraysSupport", name := "hugeLength", desc := "(II)I" } : Jvm.MethodName)) ∈ lw_all := lw_g (lw_at lw_m1 95 rfl) rfl
theorem q107 : (Jvm.Cond.code ({ cls := "jdk/internal/util/ArraysSupport", name := "hugeLength", desc := "(II)I" } : Jvm.MethodName) prog_42_method_28_code (3 : Nat) (Option.some Jvm.ClassFile.FieldType.int)) ∈ lw_all := lw_g (lw_at lw_m1 96 rfl) rfl

/-! java/lang/Math -/
set_option maxRecDepth 100000
def RJ4 : String := "java/lang/Math"
abbrev cJ4_max : ByteArray := prog_21_method_65_code
def yJ4_max : MethodName := ⟨RJ4, "max", "(II)I"⟩
theorem dJ4_max_0 : decode cJ4_max 0 = .ok (.iload_n 0, 1) := by decide +kernel
theorem dJ4_max_1 : decode cJ4_max 1 = .ok (.iload_n 1, 1) := by decide +kernel
theorem dJ4_max_2 : decode cJ4_max 2 = .ok (.if_icmp .lt 7, 3) := by decide +kernel
theorem dJ4_max_5 : decode cJ4_max 5 = .ok (.iload_n 0, 1) := by decide +kernel
theorem dJ4_max_6 : decode cJ4_max 6 = .ok (.goto 4, 3) := by decide +kernel
theorem dJ4_max_9 : decode cJ4_max 9 = .ok (.iload_n 1, 1) := by decide +kernel
theorem dJ4_max_10 : decode cJ4_max 10 = .ok (.ireturn, 1) := by decide +kernel
abbrev cJ4_min : ByteArray := prog_21_method_69_code
def yJ4_min : MethodName := ⟨RJ4, "min", "(II)I"⟩
theorem dJ4_min_0 : decode cJ4_min 0 = .ok (.iload_n 0, 1) := by decide +kernel
theorem dJ4_min_1 : decode cJ4_min 1 = .ok (.iload_n 1, 1) := by decide +kernel
theorem dJ4_min_2 : decode cJ4_min 2 = .ok (.if_icmp .gt 7, 3) := by decide +kernel
theorem dJ4_min_5 : decode cJ4_min 5 = .ok (.iload_n 0, 1) := by decide +kernel
theorem dJ4_min_6 : decode cJ4_min 6 = .ok (.goto 4, 3) := by decide +kernel
theorem dJ4_min_9 : decode cJ4_min 9 = .ok (.iload_n 1, 1) := by decide +kernel
theorem dJ4_min_10 : decode cJ4_min 10 = .ok (.ireturn, 1) := by decide +kernel
theorem q17 : (Jvm.Cond.initialized "java/lang/Math") ∈ lw_all := lw_g (lw_at lw_m1 6 rfl) rfl
theorem q102 : (Jvm.Cond.static ({ cls := "java/lang/Math", name := "max", desc := "(II)I" } : Jvm.MethodName)) ∈ lw_all := lw_g (lw_at lw_m1 91 rfl) rfl
theorem q103 : (Jvm.Cond.code ({ cls := "java/lang/Math", name := "max", desc := "(II)I" } : Jvm.MethodName) prog_21_method_65_code (2 : Nat) (Option.some Jvm.ClassFile.FieldType.int)) ∈ lw_all := lw_g (lw_at lw_m1 92 rfl) rfl
theorem q136 : (Jvm.Cond.static ({ cls := "java/lang/Math", name := "min", desc := "(II)I" } : Jvm.MethodName)) ∈ lw_all := lw_g (lw_at lw_m1 125 rfl) rfl
theorem q137 : (Jvm.Cond.code ({ cls := "java/lang/Math", name := "min", desc := "(II)I" } : Jvm.MethodName) prog_21_method_69_code (2 : Nat) (Option.some Jvm.ClassFile.FieldType.int)) ∈ lw_all := lw_g (lw_at lw_m1 126 rfl) rfl

/-! java/util/Arrays -/
set_option maxRecDepth 100000
def RJ5 : String := "java/util/Arrays"
abbrev cJ5_copyOf : ByteArray := prog_35_method_119_code
def yJ5_copyOf : MethodName := ⟨RJ5, "copyOf", "([Ljava/lang/Object;I)[Ljava/lang/Object;"⟩
theorem dJ5_copyOf_0 : decode cJ5_copyOf 0 = .ok (.aload_n 0, 1) := by decide +kernel
theorem dJ5_copyOf_1 : decode cJ5_copyOf 1 = .ok (.iload_n 1, 1) := by decide +kernel
theorem dJ5_copyOf_2 : decode cJ5_copyOf 2 = .ok (.aload_n 0, 1) := by decide +kernel
theorem dJ5_copyOf_3 : decode cJ5_copyOf 3 = .ok (.invokevirtual 86, 3) := by decide +kernel
theorem dJ5_copyOf_6 : decode cJ5_copyOf 6 = .ok (.invokestatic 300, 3) := by decide +kernel
theorem dJ5_copyOf_9 : decode cJ5_copyOf 9 = .ok (.areturn, 1) := by decide +kernel
abbrev cJ5_copyOf_2 : ByteArray := prog_35_method_120_code
def yJ5_copyOf_2 : MethodName := ⟨RJ5, "copyOf", "([Ljava/lang/Object;ILjava/lang/Class;)[Ljava/lang/Object;"⟩
theorem dJ5_copyOf_2_0 : decode cJ5_copyOf_2 0 = .ok (.aload_n 2, 1) := by decide +kernel
theorem dJ5_copyOf_2_1 : decode cJ5_copyOf_2 1 = .ok (.ldc 110, 2) := by decide +kernel
theorem dJ5_copyOf_2_3 : decode cJ5_copyOf_2 3 = .ok (.if_acmp .ne 10, 3) := by decide +kernel
theorem dJ5_copyOf_2_6 : decode cJ5_copyOf_2 6 = .ok (.iload_n 1, 1) := by decide +kernel
theorem dJ5_copyOf_2_7 : decode cJ5_copyOf_2 7 = .ok (.anewarray 2, 3) := by decide +kernel
theorem dJ5_copyOf_2_10 : decode cJ5_copyOf_2 10 = .ok (.goto 14, 3) := by decide +kernel
theorem dJ5_copyOf_2_13 : decode cJ5_copyOf_2 13 = .ok (.aload_n 2, 1) := by decide +kernel
theorem dJ5_copyOf_2_14 : decode cJ5_copyOf_2 14 = .ok (.invokevirtual 90, 3) := by decide +kernel
theorem dJ5_copyOf_2_17 : decode cJ5_copyOf_2 17 = .ok (.iload_n 1, 1) := by decide +kernel
theorem dJ5_copyOf_2_18 : decode cJ5_copyOf_2 18 = .ok (.invokestatic 95, 3) := by decide +kernel
theorem dJ5_copyOf_2_21 : decode cJ5_copyOf_2 21 = .ok (.checkcast 110, 3) := by decide +kernel
theorem dJ5_copyOf_2_24 : decode cJ5_copyOf_2 24 = .ok (.astore_n 3, 1) := by decide +kernel
theorem dJ5_copyOf_2_25 : decode cJ5_copyOf_2 25 = .ok (.aload_n 0, 1) := by decide +kernel
theorem dJ5_copyOf_2_26 : decode cJ5_copyOf_2 26 = .ok (.iconst 0, 1) := by decide +kernel
theorem dJ5_copyOf_2_27 : decode cJ5_copyOf_2 27 = .ok (.aload_n 3, 1) := by decide +kernel
theorem dJ5_copyOf_2_28 : decode cJ5_copyOf_2 28 = .ok (.iconst 0, 1) := by decide +kernel
theorem dJ5_copyOf_2_29 : decode cJ5_copyOf_2 29 = .ok (.aload_n 0, 1) := by decide +kernel
theorem dJ5_copyOf_2_30 : decode cJ5_copyOf_2 30 = .ok (.arraylength, 1) := by decide +kernel
theorem dJ5_copyOf_2_31 : decode cJ5_copyOf_2 31 = .ok (.iload_n 1, 1) := by decide +kernel
theorem dJ5_copyOf_2_32 : decode cJ5_copyOf_2 32 = .ok (.invokestatic 304, 3) := by decide +kernel
theorem dJ5_copyOf_2_35 : decode cJ5_copyOf_2 35 = .ok (.invokestatic 150, 3) := by decide +kernel
theorem dJ5_copyOf_2_38 : decode cJ5_copyOf_2 38 = .ok (.aload_n 3, 1) := by decide +kernel
theorem dJ5_copyOf_2_39 : decode cJ5_copyOf_2 39 = .ok (.areturn, 1) := by decide +kernel
theorem q18 : (Jvm.Cond.initialized "java/util/Arrays") ∈ lw_all := lw_g (lw_at lw_m1 7 rfl) rfl
theorem q109 : (Jvm.Cond.static ({ cls := "java/util/Arrays", name := "copyOf", desc := "([Ljava/lang/Object;I)[Ljava/lang/Object;" } : Jvm.MethodName)) ∈ lw_all := lw_g (lw_at lw_m1 98 rfl) rfl
theorem q110 : (Jvm.Cond.code ({ cls := "java/util/Arrays", name := "copyOf", desc := "([Ljava/lang/Object;I)[Ljava/lang/Object;" } : Jvm.MethodName) prog_35_method_119_code (2 : Nat) (Option.some (Jvm.ClassFile.FieldType.array (Jvm.ClassFile.FieldType.object "java/lang/Object")))) ∈ lw_all := lw_g (lw_at lw_m1 99 rfl) rfl
theorem q111 : (Jvm.Cond.methodLink "java/util/Arrays" (86 : Nat) ({ cls := "java/lang/Object", name := "getClass", desc := "()Ljava/lang/Class;" } : Jvm.MethodName)) ∈ lw_all := lw_g (lw_at lw_m1 100 rfl) rfl
theorem q129 : (Jvm.Cond.methodLink "java/util/Arrays" (300 : Nat) ({ cls := "java/util/Arrays", name := "copyOf", desc := "([Ljava/lang/Object;ILjava/lang/Class;)[Ljava/lang/Object;" } : Jvm.MethodName)) ∈ lw_all := lw_g (lw_at lw_m1 118 rfl) rfl
theorem q130 : (Jvm.Cond.static ({ cls := "java/util/Arrays", name := "copyOf", desc := "([Ljava/lang/Object;ILjava/lang/Class;)[Ljava/lang/Object;" } : Jvm.MethodName)) ∈ lw_all := lw_g (lw_at lw_m1 119 rfl) rfl
theorem q131 : (Jvm.Cond.code ({ cls := "java/util/Arrays", name := "copyOf", desc := "([Ljava/lang/Object;ILjava/lang/Class;)[Ljava/lang/Object;" } : Jvm.MethodName) prog_35_method_120_code (4 : Nat) (Option.some (Jvm.ClassFile.FieldType.array (Jvm.ClassFile.FieldType.object "java/lang/Object")))) ∈ lw_all := lw_g (lw_at lw_m1 120 rfl) rfl
theorem q132 : (Jvm.Cond.classLink "java/util/Arrays" (110 : Nat) "[Ljava/lang/Object;") ∈ lw_all := lw_g (lw_at lw_m1 121 rfl) rfl
theorem q134 : (Jvm.Cond.classLink "java/util/Arrays" (2 : Nat) "java/lang/Object") ∈ lw_all := lw_g (lw_at lw_m1 123 rfl) rfl
theorem q135 : (Jvm.Cond.methodLink "java/util/Arrays" (304 : Nat) ({ cls := "java/lang/Math", name := "min", desc := "(II)I" } : Jvm.MethodName)) ∈ lw_all := lw_g (lw_at lw_m1 124 rfl) rfl
theorem q138 : (Jvm.Cond.methodLink "java/util/Arrays" (150 : Nat) ({ cls := "java/lang/System", name := "arraycopy", desc := "(Ljava/lang/Object;ILjava/lang/Object;II)V" } : Jvm.MethodName)) ∈ lw_all := lw_g (lw_at lw_m1 127 rfl) rfl

/-! java/util/Objects -/
set_option maxRecDepth 100000
def RJ6 : String := "java/util/Objects"
abbrev cJ6_checkIndex : ByteArray := prog_39_method_17_code
def yJ6_checkIndex : MethodName := ⟨RJ6, "checkIndex", "(II)I"⟩
theorem dJ6_checkIndex_0 : decode cJ6_checkIndex 0 = .ok (.iload_n 0, 1) := by decide +kernel
theorem dJ6_checkIndex_1 : decode cJ6_checkIndex 1 = .ok (.iload_n 1, 1) := by decide +kernel
theorem dJ6_checkIndex_2 : decode cJ6_checkIndex 2 = .ok (.aconst_null, 1) := by decide +kernel
theorem dJ6_checkIndex_3 : decode cJ6_checkIndex 3 = .ok (.invokestatic 105, 3) := by decide +kernel
theorem dJ6_checkIndex_6 : decode cJ6_checkIndex 6 = .ok (.ireturn, 1) := by decide +kernel
theorem q22 : (Jvm.Cond.initialized "java/util/Objects") ∈ lw_all := lw_g (lw_at lw_m1 11 rfl) rfl
theorem q194 : (Jvm.Cond.static ({ cls := "java/util/Objects", name := "checkIndex", desc := "(II)I" } : Jvm.MethodName)) ∈ lw_all := lw_g (lw_at lw_m1 183 rfl) rfl
theorem q195 : (Jvm.Cond.code ({ cls := "java/util/Objects", name := "checkIndex", desc := "(II)I" } : Jvm.MethodName) prog_39_method_17_code (2 : Nat) (Option.some Jvm.ClassFile.FieldType.int)) ∈ lw_all := lw_g (lw_at lw_m1 184 rfl) rfl
theorem q196 : (Jvm.Cond.methodLink "java/util/Objects" (105 : Nat) ({ cls := "jdk/internal/util/Preconditions", name := "checkIndex", desc := "(IILjava/util/function/BiFunction;)I" } : Jvm.MethodName)) ∈ lw_all := lw_g (lw_at lw_m1 185 rfl) rfl

/-! jdk/internal/util/Preconditions -/
set_option maxRecDepth 100000
def RJ7 : String := "jdk/internal/util/Preconditions"
abbrev cJ7_checkIndex : ByteArray := prog_43_method_11_code
def yJ7_checkIndex : MethodName := ⟨RJ7, "checkIndex", "(IILjava/util/function/BiFunction;)I"⟩
theorem dJ7_checkIndex_0 : decode cJ7_checkIndex 0 = .ok (.iload_n 0, 1) := by decide +kernel
theorem dJ7_checkIndex_1 : decode cJ7_checkIndex 1 = .ok (.ifCond .lt 8, 3) := by decide +kernel
theorem dJ7_checkIndex_4 : decode cJ7_checkIndex 4 = .ok (.iload_n 0, 1) := by decide +kernel
theorem dJ7_checkIndex_5 : decode cJ7_checkIndex 5 = .ok (.iload_n 1, 1) := by decide +kernel
theorem dJ7_checkIndex_6 : decode cJ7_checkIndex 6 = .ok (.if_icmp .lt 10, 3) := by decide +kernel
theorem dJ7_checkIndex_9 : decode cJ7_checkIndex 9 = .ok (.aload_n 2, 1) := by decide +kernel
theorem dJ7_checkIndex_10 : decode cJ7_checkIndex 10 = .ok (.iload_n 0, 1) := by decide +kernel
theorem dJ7_checkIndex_11 : decode cJ7_checkIndex 11 = .ok (.iload_n 1, 1) := by decide +kernel
theorem dJ7_checkIndex_12 : decode cJ7_checkIndex 12 = .ok (.invokestatic 95, 3) := by decide +kernel
theorem dJ7_checkIndex_15 : decode cJ7_checkIndex 15 = .ok (.athrow, 1) := by decide +kernel
theorem dJ7_checkIndex_16 : decode cJ7_checkIndex 16 = .ok (.iload_n 0, 1) := by decide +kernel
theorem dJ7_checkIndex_17 : decode cJ7_checkIndex 17 = .ok (.ireturn, 1) := by decide +kernel
theorem q23 : (Jvm.Cond.initialized "jdk/internal/util/Preconditions") ∈ lw_all := lw_g (lw_at lw_m1 12 rfl) rfl
theorem q197 : (Jvm.Cond.static ({ cls := "jdk/internal/util/Preconditions", name := "checkIndex", desc := "(IILjava/util/function/BiFunction;)I" } : Jvm.MethodName)) ∈ lw_all := lw_g (lw_at lw_m1 186 rfl) rfl
theorem q198 : (Jvm.Cond.code ({ cls := "jdk/internal/util/Preconditions", name := "checkIndex", desc := "(IILjava/util/function/BiFunction;)I" } : Jvm.MethodName) prog_43_method_11_code (3 : Nat) (Option.some Jvm.ClassFile.FieldType.int)) ∈ lw_all := lw_g (lw_at lw_m1 187 rfl) rfl

/-! java/lang/Number -/
set_option maxRecDepth 100000
def RJ8 : String := "java/lang/Number"
abbrev cJ8_init : ByteArray := prog_23_method_1_code
def yJ8_init : MethodName := ⟨RJ8, "<init>", "()V"⟩
theorem dJ8_init_0 : decode cJ8_init 0 = .ok (.aload_n 0, 1) := by decide +kernel
theorem dJ8_init_1 : decode cJ8_init 1 = .ok (.invokespecial 1, 3) := by decide +kernel
theorem dJ8_init_4 : decode cJ8_init 4 = .ok (.return_, 1) := by decide +kernel
theorem q24 : (Jvm.Cond.initialized "java/lang/Number") ∈ lw_all := lw_g (lw_at lw_m1 13 rfl) rfl
theorem q220 : (Jvm.Cond.instanceMethod ({ cls := "java/lang/Number", name := "<init>", desc := "()V" } : Jvm.MethodName)) ∈ lw_all := lw_g (lw_at lw_m1 209 rfl) rfl
theorem q221 : (Jvm.Cond.code ({ cls := "java/lang/Number", name := "<init>", desc := "()V" } : Jvm.MethodName) prog_23_method_1_code (1 : Nat) (Option.none : Option Jvm.ClassFile.FieldType)) ∈ lw_all := lw_g (lw_at lw_m1 210 rfl) rfl
theorem q222 : (Jvm.Cond.methodLink "java/lang/Number" (1 : Nat) ({ cls := "java/lang/Object", name := "<init>", desc := "()V" } : Jvm.MethodName)) ∈ lw_all := lw_g (lw_at lw_m1 211 rfl) rfl

/-! java/lang/Long -/
set_option maxRecDepth 100000
def RJ9 : String := "java/lang/Long"
def TJ9 : u_T := fun k => match k with
  | _ => ("java/lang/Long", "value", "J", true)
def tyJ9 : Nat → FieldType := fun k => match k with
  | _ => .long
abbrev wsJ90 : List Cond := u_ws RJ9 TJ9 1
theorem nmJ9 : ∀ a, a < 1 → ∀ b, b < 1 → a ≠ b → (TJ9 a).2.1 ≠ (TJ9 b).2.1 := by decide +kernel
theorem tyJ9_ok : ∀ k, k < 1 → parseFieldDescriptor (TJ9 k).2.2.1 = some (tyJ9 k) := by decide +kernel
abbrev cJ9_valueOf : ByteArray := prog_19_method_24_code
def yJ9_valueOf : MethodName := ⟨RJ9, "valueOf", "(J)Ljava/lang/Long;"⟩
theorem dJ9_valueOf_0 : decode cJ9_valueOf 0 = .ok (.sipush 128, 3) := by decide +kernel
theorem dJ9_valueOf_3 : decode cJ9_valueOf 3 = .ok (.istore_n 2, 1) := by decide +kernel
theorem dJ9_valueOf_4 : decode cJ9_valueOf 4 = .ok (.lload_n 0, 1) := by decide +kernel
theorem dJ9_valueOf_5 : decode cJ9_valueOf 5 = .ok (.ldc2_w 230, 3) := by decide +kernel
theorem dJ9_valueOf_8 : decode cJ9_valueOf 8 = .ok (.lcmp, 1) := by decide +kernel
theorem dJ9_valueOf_9 : decode cJ9_valueOf 9 = .ok (.ifCond .lt 22, 3) := by decide +kernel
theorem dJ9_valueOf_12 : decode cJ9_valueOf 12 = .ok (.lload_n 0, 1) := by decide +kernel
theorem dJ9_valueOf_13 : decode cJ9_valueOf 13 = .ok (.ldc2_w 232, 3) := by decide +kernel
theorem dJ9_valueOf_16 : decode cJ9_valueOf 16 = .ok (.lcmp, 1) := by decide +kernel
theorem dJ9_valueOf_17 : decode cJ9_valueOf 17 = .ok (.ifCond .gt 14, 3) := by decide +kernel
theorem dJ9_valueOf_20 : decode cJ9_valueOf 20 = .ok (.getstatic 234, 3) := by decide +kernel
theorem dJ9_valueOf_23 : decode cJ9_valueOf 23 = .ok (.lload_n 0, 1) := by decide +kernel
theorem dJ9_valueOf_24 : decode cJ9_valueOf 24 = .ok (.l2i, 1) := by decide +kernel
theorem dJ9_valueOf_25 : decode cJ9_valueOf 25 = .ok (.sipush 128, 3) := by decide +kernel
theorem dJ9_valueOf_28 : decode cJ9_valueOf 28 = .ok (.iadd, 1) := by decide +kernel
theorem dJ9_valueOf_29 : decode cJ9_valueOf 29 = .ok (.aaload, 1) := by decide +kernel
theorem dJ9_valueOf_30 : decode cJ9_valueOf 30 = .ok (.areturn, 1) := by decide +kernel
theorem dJ9_valueOf_31 : decode cJ9_valueOf 31 = .ok (.new 1, 3) := by decide +kernel
theorem dJ9_valueOf_34 : decode cJ9_valueOf 34 = .ok (.dup, 1) := by decide +kernel
theorem dJ9_valueOf_35 : decode cJ9_valueOf 35 = .ok (.lload_n 0, 1) := by decide +kernel
theorem dJ9_valueOf_36 : decode cJ9_valueOf 36 = .ok (.invokespecial 240, 3) := by decide +kernel
theorem dJ9_valueOf_39 : decode cJ9_valueOf 39 = .ok (.areturn, 1) := by decide +kernel
abbrev cJ9_init : ByteArray := prog_19_method_26_code
def yJ9_init : MethodName := ⟨RJ9, "<init>", "(J)V"⟩
theorem dJ9_init_0 : decode cJ9_init 0 = .ok (.aload_n 0, 1) := by decide +kernel
theorem dJ9_init_1 : decode cJ9_init 1 = .ok (.invokespecial 270, 3) := by decide +kernel
theorem dJ9_init_4 : decode cJ9_init 4 = .ok (.aload_n 0, 1) := by decide +kernel
theorem dJ9_init_5 : decode cJ9_init 5 = .ok (.lload_n 1, 1) := by decide +kernel
theorem dJ9_init_6 : decode cJ9_init 6 = .ok (.putfield 273, 3) := by decide +kernel
theorem dJ9_init_9 : decode cJ9_init 9 = .ok (.return_, 1) := by decide +kernel
abbrev cJ9_longValue : ByteArray := prog_19_method_31_code
def yJ9_longValue : MethodName := ⟨RJ9, "longValue", "()J"⟩
theorem dJ9_longValue_0 : decode cJ9_longValue 0 = .ok (.aload_n 0, 1) := by decide +kernel
theorem dJ9_longValue_1 : decode cJ9_longValue 1 = .ok (.getfield 273, 3) := by decide +kernel
theorem dJ9_longValue_4 : decode cJ9_longValue 4 = .ok (.lreturn, 1) := by decide +kernel
theorem q25 : (Jvm.Cond.initialized "java/lang/Long") ∈ lw_all := lw_g (lw_at lw_m1 14 rfl) rfl
theorem q123 : (Jvm.Cond.selects "java/lang/Long" ({ cls := "java/lang/Object", name := "getClass", desc := "()Ljava/lang/Class;" } : Jvm.MethodName) ({ cls := "java/lang/Object", name := "getClass", desc := "()Ljava/lang/Class;" } : Jvm.MethodName)) ∈ lw_all := lw_g (lw_at lw_m1 112 rfl) rfl
theorem q208 : (Jvm.Cond.static ({ cls := "java/lang/Long", name := "valueOf", desc := "(J)Ljava/lang/Long;" } : Jvm.MethodName)) ∈ lw_all := lw_g (lw_at lw_m1 197 rfl) rfl
theorem q209 : (Jvm.Cond.code ({ cls := "java/lang/Long", name := "valueOf", desc := "(J)Ljava/lang/Long;" } : Jvm.MethodName) prog_19_method_24_code (3 : Nat) (Option.some (Jvm.ClassFile.FieldType.object "java/lang/Long"))) ∈ lw_all := lw_g (lw_at lw_m1 198 rfl) rfl
theorem q210 : (Jvm.Cond.constantLong "java/lang/Long" (230 : Nat) (-128 : Int64)) ∈ lw_all := lw_g (lw_at lw_m1 199 rfl) rfl
theorem q211 : (Jvm.Cond.constantLong "java/lang/Long" (232 : Nat) (127 : Int64)) ∈ lw_all := lw_g (lw_at lw_m1 200 rfl) rfl
theorem q212 : (Jvm.Cond.fieldLink "java/lang/Long" (234 : Nat) "java/lang/Long$LongCache" "cache" "[Ljava/lang/Long;") ∈ lw_all := lw_g (lw_at lw_m1 201 rfl) rfl
theorem q214 : (Jvm.Cond.classLink "java/lang/Long" (1 : Nat) "java/lang/Long") ∈ lw_all := lw_g (lw_at lw_m1 203 rfl) rfl
theorem q215 : (Jvm.Cond.instantiable "java/lang/Long" (1 : Nat)) ∈ lw_all := lw_g (lw_at lw_m1 204 rfl) rfl
theorem q216 : (Jvm.Cond.methodLink "java/lang/Long" (240 : Nat) ({ cls := "java/lang/Long", name := "<init>", desc := "(J)V" } : Jvm.MethodName)) ∈ lw_all := lw_g (lw_at lw_m1 205 rfl) rfl
theorem q217 : (Jvm.Cond.instanceMethod ({ cls := "java/lang/Long", name := "<init>", desc := "(J)V" } : Jvm.MethodName)) ∈ lw_all := lw_g (lw_at lw_m1 206 rfl) rfl
theorem q218 : (Jvm.Cond.code ({ cls := "java/lang/Long", name := "<init>", desc := "(J)V" } : Jvm.MethodName) prog_19_method_26_code (3 : Nat) (Option.none : Option Jvm.ClassFile.FieldType)) ∈ lw_all := lw_g (lw_at lw_m1 207 rfl) rfl
theorem q219 : (Jvm.Cond.methodLink "java/lang/Long" (270 : Nat) ({ cls := "java/lang/Number", name := "<init>", desc := "()V" } : Jvm.MethodName)) ∈ lw_all := lw_g (lw_at lw_m1 208 rfl) rfl
theorem q223 : (Jvm.Cond.fieldLink "java/lang/Long" (273 : Nat) "java/lang/Long" "value" "J") ∈ lw_all := lw_g (lw_at lw_m1 212 rfl) rfl
theorem q224 : (Jvm.Cond.laysFinal "java/lang/Long" "java/lang/Long" "value" "J") ∈ lw_all := lw_g (lw_at lw_m1 213 rfl) rfl
theorem q225 : (Jvm.Cond.soleField "java/lang/Long" "value") ∈ lw_all := lw_g (lw_at lw_m1 214 rfl) rfl
theorem q226 : (Jvm.Cond.superclass "java/lang/Long" "java/lang/Number") ∈ lw_all := lw_g (lw_at lw_m1 215 rfl) rfl
theorem q522 : (Jvm.Cond.instanceMethod ({ cls := "java/lang/Long", name := "longValue", desc := "()J" } : Jvm.MethodName)) ∈ lw_all := lw_g (lw_at lw_m3 31 rfl) rfl
theorem q523 : (Jvm.Cond.selects "java/lang/Long" ({ cls := "java/lang/Long", name := "longValue", desc := "()J" } : Jvm.MethodName) ({ cls := "java/lang/Long", name := "longValue", desc := "()J" } : Jvm.MethodName)) ∈ lw_all := lw_g (lw_at lw_m3 32 rfl) rfl
theorem q524 : (Jvm.Cond.code ({ cls := "java/lang/Long", name := "longValue", desc := "()J" } : Jvm.MethodName) prog_19_method_31_code (1 : Nat) (Option.some Jvm.ClassFile.FieldType.long)) ∈ lw_all := lw_g (lw_at lw_m3 33 rfl) rfl
theorem q664 : (Jvm.Cond.castable "java/lang/Long" "java/lang/Object") ∈ lw_tbl := lw_at lw_m3 173 rfl
theorem in_J9 : ∀ w ∈ wsJ90, w ∈ lw_all := lw_in wsJ90 [224] (by decide +kernel) (by decide +kernel)

/-! java/util/ArrayList$Itr -/
set_option maxRecDepth 100000
def RJ21 : String := "java/util/ArrayList$Itr"
def TJ21 : u_T := fun k => match k with
  | 0 => ("java/util/ArrayList$Itr", "cursor", "I", false)
  | 1 => ("java/util/ArrayList$Itr", "lastRet", "I", false)
  | 2 => ("java/util/ArrayList$Itr", "expectedModCount", "I", false)
  | _ => ("java/util/ArrayList$Itr", "this$0", "Ljava/util/ArrayList;", true)
def tyJ21 : Nat → FieldType := fun k => match k with
  | 0 => .int
  | 1 => .int
  | 2 => .int
  | _ => .object "java/util/ArrayList"
abbrev wsJ210 : List Cond := u_ws RJ21 TJ21 4
theorem nmJ21 : ∀ a, a < 4 → ∀ b, b < 4 → a ≠ b → (TJ21 a).2.1 ≠ (TJ21 b).2.1 := by decide +kernel
theorem tyJ21_ok : ∀ k, k < 4 → parseFieldDescriptor (TJ21 k).2.2.1 = some (tyJ21 k) := by decide +kernel
abbrev cJ21_init : ByteArray := prog_34_method_1_code
def yJ21_init : MethodName := ⟨RJ21, "<init>", "(Ljava/util/ArrayList;)V"⟩
theorem dJ21_init_0 : decode cJ21_init 0 = .ok (.aload_n 0, 1) := by decide +kernel
theorem dJ21_init_1 : decode cJ21_init 1 = .ok (.aload_n 1, 1) := by decide +kernel
theorem dJ21_init_2 : decode cJ21_init 2 = .ok (.putfield 1, 3) := by decide +kernel
theorem dJ21_init_5 : decode cJ21_init 5 = .ok (.aload_n 0, 1) := by decide +kernel
theorem dJ21_init_6 : decode cJ21_init 6 = .ok (.invokespecial 7, 3) := by decide +kernel
theorem dJ21_init_9 : decode cJ21_init 9 = .ok (.aload_n 0, 1) := by decide +kernel
theorem dJ21_init_10 : decode cJ21_init 10 = .ok (.iconst (-1), 1) := by decide +kernel
theorem dJ21_init_11 : decode cJ21_init 11 = .ok (.putfield 13, 3) := by decide +kernel
theorem dJ21_init_14 : decode cJ21_init 14 = .ok (.aload_n 0, 1) := by decide +kernel
theorem dJ21_init_15 : decode cJ21_init 15 = .ok (.aload_n 0, 1) := by decide +kernel
theorem dJ21_init_16 : decode cJ21_init 16 = .ok (.getfield 1, 3) := by decide +kernel
theorem dJ21_init_19 : decode cJ21_init 19 = .ok (.getfield 17, 3) := by decide +kernel
theorem dJ21_init_22 : decode cJ21_init 22 = .ok (.putfield 22, 3) := by decide +kernel
theorem dJ21_init_25 : decode cJ21_init 25 = .ok (.return_, 1) := by decide +kernel
abbrev cJ21_hasNext : ByteArray := prog_34_method_2_code
def yJ21_hasNext : MethodName := ⟨RJ21, "hasNext", "()Z"⟩
theorem dJ21_hasNext_0 : decode cJ21_hasNext 0 = .ok (.aload_n 0, 1) := by decide +kernel
theorem dJ21_hasNext_1 : decode cJ21_hasNext 1 = .ok (.getfield 25, 3) := by decide +kernel
theorem dJ21_hasNext_4 : decode cJ21_hasNext 4 = .ok (.aload_n 0, 1) := by decide +kernel
theorem dJ21_hasNext_5 : decode cJ21_hasNext 5 = .ok (.getfield 1, 3) := by decide +kernel
theorem dJ21_hasNext_8 : decode cJ21_hasNext 8 = .ok (.getfield 28, 3) := by decide +kernel
theorem dJ21_hasNext_11 : decode cJ21_hasNext 11 = .ok (.if_icmp .eq 7, 3) := by decide +kernel
theorem dJ21_hasNext_14 : decode cJ21_hasNext 14 = .ok (.iconst 1, 1) := by decide +kernel
theorem dJ21_hasNext_15 : decode cJ21_hasNext 15 = .ok (.goto 4, 3) := by decide +kernel
theorem dJ21_hasNext_18 : decode cJ21_hasNext 18 = .ok (.iconst 0, 1) := by decide +kernel
theorem dJ21_hasNext_19 : decode cJ21_hasNext 19 = .ok (.ireturn, 1) := by decide +kernel
abbrev cJ21_next : ByteArray := prog_34_method_3_code
def yJ21_next : MethodName := ⟨RJ21, "next", "()Ljava/lang/Object;"⟩
theorem dJ21_next_0 : decode cJ21_next 0 = .ok (.aload_n 0, 1) := by decide +kernel
theorem dJ21_next_1 : decode cJ21_next 1 = .ok (.invokevirtual 31, 3) := by decide +kernel
theorem dJ21_next_4 : decode cJ21_next 4 = .ok (.aload_n 0, 1) := by decide +kernel
theorem dJ21_next_5 : decode cJ21_next 5 = .ok (.getfield 25, 3) := by decide +kernel
theorem dJ21_next_8 : decode cJ21_next 8 = .ok (.istore_n 1, 1) := by decide +kernel
theorem dJ21_next_9 : decode cJ21_next 9 = .ok (.iload_n 1, 1) := by decide +kernel
theorem dJ21_next_10 : decode cJ21_next 10 = .ok (.aload_n 0, 1) := by decide +kernel
theorem dJ21_next_11 : decode cJ21_next 11 = .ok (.getfield 1, 3) := by decide +kernel
theorem dJ21_next_14 : decode cJ21_next 14 = .ok (.getfield 28, 3) := by decide +kernel
theorem dJ21_next_17 : decode cJ21_next 17 = .ok (.if_icmp .lt 11, 3) := by decide +kernel
theorem dJ21_next_20 : decode cJ21_next 20 = .ok (.new 34, 3) := by decide +kernel
theorem dJ21_next_23 : decode cJ21_next 23 = .ok (.dup, 1) := by decide +kernel
theorem dJ21_next_24 : decode cJ21_next 24 = .ok (.invokespecial 36, 3) := by decide +kernel
theorem dJ21_next_27 : decode cJ21_next 27 = .ok (.athrow, 1) := by decide +kernel
theorem dJ21_next_28 : decode cJ21_next 28 = .ok (.aload_n 0, 1) := by decide +kernel
theorem dJ21_next_29 : decode cJ21_next 29 = .ok (.getfield 1, 3) := by decide +kernel
theorem dJ21_next_32 : decode cJ21_next 32 = .ok (.getfield 37, 3) := by decide +kernel
theorem dJ21_next_35 : decode cJ21_next 35 = .ok (.astore_n 2, 1) := by decide +kernel
theorem dJ21_next_36 : decode cJ21_next 36 = .ok (.iload_n 1, 1) := by decide +kernel
theorem dJ21_next_37 : decode cJ21_next 37 = .ok (.aload_n 2, 1) := by decide +kernel
theorem dJ21_next_38 : decode cJ21_next 38 = .ok (.arraylength, 1) := by decide +kernel
theorem dJ21_next_39 : decode cJ21_next 39 = .ok (.if_icmp .lt 11, 3) := by decide +kernel
theorem dJ21_next_42 : decode cJ21_next 42 = .ok (.new 41, 3) := by decide +kernel
theorem dJ21_next_45 : decode cJ21_next 45 = .ok (.dup, 1) := by decide +kernel
theorem dJ21_next_46 : decode cJ21_next 46 = .ok (.invokespecial 43, 3) := by decide +kernel
theorem dJ21_next_49 : decode cJ21_next 49 = .ok (.athrow, 1) := by decide +kernel
theorem dJ21_next_50 : decode cJ21_next 50 = .ok (.aload_n 0, 1) := by decide +kernel
theorem dJ21_next_51 : decode cJ21_next 51 = .ok (.iload_n 1, 1) := by decide +kernel
theorem dJ21_next_52 : decode cJ21_next 52 = .ok (.iconst 1, 1) := by decide +kernel
theorem dJ21_next_53 : decode cJ21_next 53 = .ok (.iadd, 1) := by decide +kernel
theorem dJ21_next_54 : decode cJ21_next 54 = .ok (.putfield 25, 3) := by decide +kernel
theorem dJ21_next_57 : decode cJ21_next 57 = .ok (.aload_n 2, 1) := by decide +kernel
theorem dJ21_next_58 : decode cJ21_next 58 = .ok (.aload_n 0, 1) := by decide +kernel
theorem dJ21_next_59 : decode cJ21_next 59 = .ok (.iload_n 1, 1) := by decide +kernel
theorem dJ21_next_60 : decode cJ21_next 60 = .ok (.dup_x1, 1) := by decide +kernel
theorem dJ21_next_61 : decode cJ21_next 61 = .ok (.putfield 13, 3) := by decide +kernel
theorem dJ21_next_64 : decode cJ21_next 64 = .ok (.aaload, 1) := by decide +kernel
theorem dJ21_next_65 : decode cJ21_next 65 = .ok (.areturn, 1) := by decide +kernel
abbrev cJ21_checkForComodification : ByteArray := prog_34_method_6_code
def yJ21_checkForComodification : MethodName := ⟨RJ21, "checkForComodification", "()V"⟩
theorem dJ21_checkForComodification_0 : decode cJ21_checkForComodification 0 = .ok (.aload_n 0, 1) := by decide +kernel
theorem dJ21_checkForComodification_1 : decode cJ21_checkForComodification 1 = .ok (.getfield 1, 3) := by decide +kernel
theorem dJ21_checkForComodification_4 : decode cJ21_checkForComodification 4 = .ok (.getfield 17, 3) := by decide +kernel
theorem dJ21_checkForComodification_7 : decode cJ21_checkForComodification 7 = .ok (.aload_n 0, 1) := by decide +kernel
theorem dJ21_checkForComodification_8 : decode cJ21_checkForComodification 8 = .ok (.getfield 22, 3) := by decide +kernel
theorem dJ21_checkForComodification_11 : decode cJ21_checkForComodification 11 = .ok (.if_icmp .eq 11, 3) := by decide +kernel
theorem dJ21_checkForComodification_14 : decode cJ21_checkForComodification 14 = .ok (.new 41, 3) := by decide +kernel
theorem dJ21_checkForComodification_17 : decode cJ21_checkForComodification 17 = .ok (.dup, 1) := by decide +kernel
theorem dJ21_checkForComodification_18 : decode cJ21_checkForComodification 18 = .ok (.invokespecial 43, 3) := by decide +kernel
theorem dJ21_checkForComodification_21 : decode cJ21_checkForComodification 21 = .ok (.athrow, 1) := by decide +kernel
theorem dJ21_checkForComodification_22 : decode cJ21_checkForComodification 22 = .ok (.return_, 1) := by decide +kernel
theorem q42 : (Jvm.Cond.initialized "java/util/ArrayList$Itr") ∈ lw_all := lw_g (lw_at lw_m1 31 rfl) rfl
theorem q66 : (Jvm.Cond.fieldLink "java/util/ArrayList$Itr" (37 : Nat) "java/util/ArrayList" "elementData" "[Ljava/lang/Object;") ∈ lw_all := lw_g (lw_at lw_m1 55 rfl) rfl
theorem q67 : (Jvm.Cond.fieldLinkNest "java/util/ArrayList$Itr" (28 : Nat) "java/util/ArrayList" "size" "I" "java/util/ArrayList") ∈ lw_tbl := lw_at lw_m1 56 rfl
theorem q70 : (Jvm.Cond.fieldLink "java/util/ArrayList$Itr" (17 : Nat) "java/util/ArrayList" "modCount" "I") ∈ lw_all := lw_g (lw_at lw_m1 59 rfl) rfl
theorem q127 : (Jvm.Cond.selects "java/util/ArrayList$Itr" ({ cls := "java/lang/Object", name := "getClass", desc := "()Ljava/lang/Class;" } : Jvm.MethodName) ({ cls := "java/lang/Object", name := "getClass", desc := "()Ljava/lang/Class;" } : Jvm.MethodName)) ∈ lw_all := lw_g (lw_at lw_m1 116 rfl) rfl
theorem q479 : (Jvm.Cond.instantiable "java/util/ArrayList$Itr" (4 : Nat)) ∈ lw_all := lw_g (lw_at lw_m2 228 rfl) rfl
theorem q481 : (Jvm.Cond.instanceMethod ({ cls := "java/util/ArrayList$Itr", name := "<init>", desc := "(Ljava/util/ArrayList;)V" } : Jvm.MethodName)) ∈ lw_all := lw_g (lw_at lw_m2 230 rfl) rfl
theorem q482 : (Jvm.Cond.code ({ cls := "java/util/ArrayList$Itr", name := "<init>", desc := "(Ljava/util/ArrayList;)V" } : Jvm.MethodName) prog_34_method_1_code (2 : Nat) (Option.none : Option Jvm.ClassFile.FieldType)) ∈ lw_all := lw_g (lw_at lw_m2 231 rfl) rfl
theorem q483 : (Jvm.Cond.methodLink "java/util/ArrayList$Itr" (7 : Nat) ({ cls := "java/lang/Object", name := "<init>", desc := "()V" } : Jvm.MethodName)) ∈ lw_all := lw_g (lw_at lw_m2 232 rfl) rfl
theorem q484 : (Jvm.Cond.fieldLink "java/util/ArrayList$Itr" (25 : Nat) "java/util/ArrayList$Itr" "cursor" "I") ∈ lw_all := lw_g (lw_at lw_m2 233 rfl) rfl
theorem q485 : (Jvm.Cond.fieldLink "java/util/ArrayList$Itr" (13 : Nat) "java/util/ArrayList$Itr" "lastRet" "I") ∈ lw_all := lw_g (lw_at lw_m2 234 rfl) rfl
theorem q486 : (Jvm.Cond.fieldLink "java/util/ArrayList$Itr" (22 : Nat) "java/util/ArrayList$Itr" "expectedModCount" "I") ∈ lw_all := lw_g (lw_at lw_m2 235 rfl) rfl
theorem q487 : (Jvm.Cond.fieldLink "java/util/ArrayList$Itr" (1 : Nat) "java/util/ArrayList$Itr" "this$0" "Ljava/util/ArrayList;") ∈ lw_all := lw_g (lw_at lw_m2 236 rfl) rfl
theorem q488 : (Jvm.Cond.lays "java/util/ArrayList$Itr" "java/util/ArrayList$Itr" "cursor" "I") ∈ lw_all := lw_g (lw_at lw_m2 237 rfl) rfl
theorem q489 : (Jvm.Cond.soleField "java/util/ArrayList$Itr" "cursor") ∈ lw_all := lw_g (lw_at lw_m2 238 rfl) rfl
theorem q490 : (Jvm.Cond.lays "java/util/ArrayList$Itr" "java/util/ArrayList$Itr" "lastRet" "I") ∈ lw_all := lw_g (lw_at lw_m2 239 rfl) rfl
theorem q491 : (Jvm.Cond.soleField "java/util/ArrayList$Itr" "lastRet") ∈ lw_all := lw_g (lw_at lw_m3 0 rfl) rfl
theorem q492 : (Jvm.Cond.lays "java/util/ArrayList$Itr" "java/util/ArrayList$Itr" "expectedModCount" "I") ∈ lw_all := lw_g (lw_at lw_m3 1 rfl) rfl
theorem q493 : (Jvm.Cond.soleField "java/util/ArrayList$Itr" "expectedModCount") ∈ lw_all := lw_g (lw_at lw_m3 2 rfl) rfl
theorem q494 : (Jvm.Cond.laysFinal "java/util/ArrayList$Itr" "java/util/ArrayList$Itr" "this$0" "Ljava/util/ArrayList;") ∈ lw_all := lw_g (lw_at lw_m3 3 rfl) rfl
theorem q495 : (Jvm.Cond.soleField "java/util/ArrayList$Itr" "this$0") ∈ lw_all := lw_g (lw_at lw_m3 4 rfl) rfl
theorem q496 : (Jvm.Cond.superclass "java/util/ArrayList$Itr" "java/lang/Object") ∈ lw_all := lw_g (lw_at lw_m3 5 rfl) rfl
theorem q501 : (Jvm.Cond.castable "java/util/ArrayList$Itr" "java/util/Iterator") ∈ lw_tbl := lw_at lw_m3 10 rfl
theorem q502 : (Jvm.Cond.selects "java/util/ArrayList$Itr" ({ cls := "java/util/Iterator", name := "hasNext", desc := "()Z" } : Jvm.MethodName) ({ cls := "java/util/ArrayList$Itr", name := "hasNext", desc := "()Z" } : Jvm.MethodName)) ∈ lw_all := lw_g (lw_at lw_m3 11 rfl) rfl
theorem q503 : (Jvm.Cond.unhidden "java/util/ArrayList$Itr" "hasNext" "()Z") ∈ lw_tbl := lw_at lw_m3 12 rfl
theorem q504 : (Jvm.Cond.instanceMethod ({ cls := "java/util/ArrayList$Itr", name := "hasNext", desc := "()Z" } : Jvm.MethodName)) ∈ lw_all := lw_g (lw_at lw_m3 13 rfl) rfl
theorem q505 : (Jvm.Cond.publicMethod ({ cls := "java/util/ArrayList$Itr", name := "hasNext", desc := "()Z" } : Jvm.MethodName)) ∈ lw_tbl := lw_at lw_m3 14 rfl
theorem q506 : (Jvm.Cond.code ({ cls := "java/util/ArrayList$Itr", name := "hasNext", desc := "()Z" } : Jvm.MethodName) prog_34_method_2_code (1 : Nat) (Option.some Jvm.ClassFile.FieldType.boolean)) ∈ lw_all := lw_g (lw_at lw_m3 15 rfl) rfl
theorem q511 : (Jvm.Cond.selects "java/util/ArrayList$Itr" ({ cls := "java/util/Iterator", name := "next", desc := "()Ljava/lang/Object;" } : Jvm.MethodName) ({ cls := "java/util/ArrayList$Itr", name := "next", desc := "()Ljava/lang/Object;" } : Jvm.MethodName)) ∈ lw_all := lw_g (lw_at lw_m3 20 rfl) rfl
theorem q512 : (Jvm.Cond.unhidden "java/util/ArrayList$Itr" "next" "()Ljava/lang/Object;") ∈ lw_tbl := lw_at lw_m3 21 rfl
theorem q513 : (Jvm.Cond.instanceMethod ({ cls := "java/util/ArrayList$Itr", name := "next", desc := "()Ljava/lang/Object;" } : Jvm.MethodName)) ∈ lw_all := lw_g (lw_at lw_m3 22 rfl) rfl
theorem q514 : (Jvm.Cond.publicMethod ({ cls := "java/util/ArrayList$Itr", name := "next", desc := "()Ljava/lang/Object;" } : Jvm.MethodName)) ∈ lw_tbl := lw_at lw_m3 23 rfl
theorem q515 : (Jvm.Cond.code ({ cls := "java/util/ArrayList$Itr", name := "next", desc := "()Ljava/lang/Object;" } : Jvm.MethodName) prog_34_method_3_code (3 : Nat) (Option.some (Jvm.ClassFile.FieldType.object "java/lang/Object"))) ∈ lw_all := lw_g (lw_at lw_m3 24 rfl) rfl
theorem q516 : (Jvm.Cond.methodLink "java/util/ArrayList$Itr" (31 : Nat) ({ cls := "java/util/ArrayList$Itr", name := "checkForComodification", desc := "()V" } : Jvm.MethodName)) ∈ lw_all := lw_g (lw_at lw_m3 25 rfl) rfl
theorem q517 : (Jvm.Cond.instanceMethod ({ cls := "java/util/ArrayList$Itr", name := "checkForComodification", desc := "()V" } : Jvm.MethodName)) ∈ lw_all := lw_g (lw_at lw_m3 26 rfl) rfl
theorem q518 : (Jvm.Cond.selects "java/util/ArrayList$Itr" ({ cls := "java/util/ArrayList$Itr", name := "checkForComodification", desc := "()V" } : Jvm.MethodName) ({ cls := "java/util/ArrayList$Itr", name := "checkForComodification", desc := "()V" } : Jvm.MethodName)) ∈ lw_all := lw_g (lw_at lw_m3 27 rfl) rfl
theorem q519 : (Jvm.Cond.code ({ cls := "java/util/ArrayList$Itr", name := "checkForComodification", desc := "()V" } : Jvm.MethodName) prog_34_method_6_code (1 : Nat) (Option.none : Option Jvm.ClassFile.FieldType)) ∈ lw_all := lw_g (lw_at lw_m3 28 rfl) rfl
theorem q673 : (Jvm.Cond.castable "java/util/ArrayList$Itr" "java/lang/Object") ∈ lw_tbl := lw_at lw_m3 182 rfl
theorem in_J21 : ∀ w ∈ wsJ210, w ∈ lw_all := lw_in wsJ210 [488, 490, 492, 494] (by decide +kernel) (by decide +kernel)
end
section
/-! java/lang/Throwable -/
set_option maxRecDepth 100000
def RJ10 : String := "java/lang/Throwable"
def TJ10 : u_T := fun k => match k with
  | 0 => ("java/lang/Throwable", "cause", "Ljava/lang/Throwable;", false)
  | 1 => ("java/lang/Throwable", "stackTrace", "[Ljava/lang/StackTraceElement;", false)
  | 2 => ("java/lang/Throwable", "suppressedExceptions", "Ljava/util/List;", false)
  | 3 => ("java/lang/Throwable", "detailMessage", "Ljava/lang/String;", false)
  | _ => ("java/lang/Throwable", "backtrace", "Ljava/lang/Object;", false)
def tyJ10 : Nat → FieldType := fun k => match k with
  | 0 => .object "java/lang/Throwable"
  | 1 => .array (.object "java/lang/StackTraceElement")
  | 2 => .object "java/util/List"
  | 3 => .object "java/lang/String"
  | _ => .object "java/lang/Object"
abbrev wsJ100 : List Cond := u_ws RJ10 TJ10 5
theorem nmJ10 : ∀ a, a < 5 → ∀ b, b < 5 → a ≠ b → (TJ10 a).2.1 ≠ (TJ10 b).2.1 := by decide +kernel
theorem tyJ10_ok : ∀ k, k < 5 → parseFieldDescriptor (TJ10 k).2.2.1 = some (tyJ10 k) := by decide +kernel
abbrev cJ10_init : ByteArray := prog_27_method_2_code
def yJ10_init : MethodName := ⟨RJ10, "<init>", "(Ljava/lang/String;)V"⟩
theorem dJ10_init_0 : decode cJ10_init 0 = .ok (.aload_n 0, 1) := by decide +kernel
theorem dJ10_init_1 : decode cJ10_init 1 = .ok (.invokespecial 1, 3) := by decide +kernel
theorem dJ10_init_4 : decode cJ10_init 4 = .ok (.aload_n 0, 1) := by decide +kernel
theorem dJ10_init_5 : decode cJ10_init 5 = .ok (.aload_n 0, 1) := by decide +kernel
theorem dJ10_init_6 : decode cJ10_init 6 = .ok (.putfield 7, 3) := by decide +kernel
theorem dJ10_init_9 : decode cJ10_init 9 = .ok (.aload_n 0, 1) := by decide +kernel
theorem dJ10_init_10 : decode cJ10_init 10 = .ok (.getstatic 13, 3) := by decide +kernel
theorem dJ10_init_13 : decode cJ10_init 13 = .ok (.putfield 17, 3) := by decide +kernel
theorem dJ10_init_16 : decode cJ10_init 16 = .ok (.aload_n 0, 1) := by decide +kernel
theorem dJ10_init_17 : decode cJ10_init 17 = .ok (.getstatic 20, 3) := by decide +kernel
theorem dJ10_init_20 : decode cJ10_init 20 = .ok (.putfield 24, 3) := by decide +kernel
theorem dJ10_init_23 : decode cJ10_init 23 = .ok (.aload_n 0, 1) := by decide +kernel
theorem dJ10_init_24 : decode cJ10_init 24 = .ok (.invokevirtual 27, 3) := by decide +kernel
theorem dJ10_init_27 : decode cJ10_init 27 = .ok (.pop, 1) := by decide +kernel
theorem dJ10_init_28 : decode cJ10_init 28 = .ok (.aload_n 0, 1) := by decide +kernel
theorem dJ10_init_29 : decode cJ10_init 29 = .ok (.aload_n 1, 1) := by decide +kernel
theorem dJ10_init_30 : decode cJ10_init 30 = .ok (.putfield 31, 3) := by decide +kernel
theorem dJ10_init_33 : decode cJ10_init 33 = .ok (.return_, 1) := by decide +kernel
abbrev cJ10_init_2 : ByteArray := prog_27_method_1_code
def yJ10_init_2 : MethodName := ⟨RJ10, "<init>", "()V"⟩
theorem dJ10_init_2_0 : decode cJ10_init_2 0 = .ok (.aload_n 0, 1) := by decide +kernel
theorem dJ10_init_2_1 : decode cJ10_init_2 1 = .ok (.invokespecial 1, 3) := by decide +kernel
theorem dJ10_init_2_4 : decode cJ10_init_2 4 = .ok (.aload_n 0, 1) := by decide +kernel
theorem dJ10_init_2_5 : decode cJ10_init_2 5 = .ok (.aload_n 0, 1) := by decide +kernel
theorem dJ10_init_2_6 : decode cJ10_init_2 6 = .ok (.putfield 7, 3) := by decide +kernel
theorem dJ10_init_2_9 : decode cJ10_init_2 9 = .ok (.aload_n 0, 1) := by decide +kernel
theorem dJ10_init_2_10 : decode cJ10_init_2 10 = .ok (.getstatic 13, 3) := by decide +kernel
theorem dJ10_init_2_13 : decode cJ10_init_2 13 = .ok (.putfield 17, 3) := by decide +kernel
theorem dJ10_init_2_16 : decode cJ10_init_2 16 = .ok (.aload_n 0, 1) := by decide +kernel
theorem dJ10_init_2_17 : decode cJ10_init_2 17 = .ok (.getstatic 20, 3) := by decide +kernel
theorem dJ10_init_2_20 : decode cJ10_init_2 20 = .ok (.putfield 24, 3) := by decide +kernel
theorem dJ10_init_2_23 : decode cJ10_init_2 23 = .ok (.aload_n 0, 1) := by decide +kernel
theorem dJ10_init_2_24 : decode cJ10_init_2 24 = .ok (.invokevirtual 27, 3) := by decide +kernel
theorem dJ10_init_2_27 : decode cJ10_init_2 27 = .ok (.pop, 1) := by decide +kernel
theorem dJ10_init_2_28 : decode cJ10_init_2 28 = .ok (.return_, 1) := by decide +kernel
theorem q30 : (Jvm.Cond.initialized "java/lang/Throwable") ∈ lw_all := lw_g (lw_at lw_m1 19 rfl) rfl
theorem q306 : (Jvm.Cond.instanceMethod ({ cls := "java/lang/Throwable", name := "<init>", desc := "(Ljava/lang/String;)V" } : Jvm.MethodName)) ∈ lw_all := lw_g (lw_at lw_m2 55 rfl) rfl
theorem q307 : (Jvm.Cond.code ({ cls := "java/lang/Throwable", name := "<init>", desc := "(Ljava/lang/String;)V" } : Jvm.MethodName) prog_27_method_2_code (2 : Nat) (Option.none : Option Jvm.ClassFile.FieldType)) ∈ lw_all := lw_g (lw_at lw_m2 56 rfl) rfl
theorem q308 : (Jvm.Cond.methodLink "java/lang/Throwable" (1 : Nat) ({ cls := "java/lang/Object", name := "<init>", desc := "()V" } : Jvm.MethodName)) ∈ lw_all := lw_g (lw_at lw_m2 57 rfl) rfl
theorem q309 : (Jvm.Cond.fieldLink "java/lang/Throwable" (13 : Nat) "java/lang/Throwable" "UNASSIGNED_STACK" "[Ljava/lang/StackTraceElement;") ∈ lw_all := lw_g (lw_at lw_m2 58 rfl) rfl
theorem q310 : (Jvm.Cond.laysStatic "java/lang/Throwable" "UNASSIGNED_STACK" "[Ljava/lang/StackTraceElement;") ∈ lw_tbl := lw_at lw_m2 59 rfl
theorem q311 : (Jvm.Cond.fieldLink "java/lang/Throwable" (20 : Nat) "java/lang/Throwable" "SUPPRESSED_SENTINEL" "Ljava/util/List;") ∈ lw_all := lw_g (lw_at lw_m2 60 rfl) rfl
theorem q312 : (Jvm.Cond.laysStatic "java/lang/Throwable" "SUPPRESSED_SENTINEL" "Ljava/util/List;") ∈ lw_tbl := lw_at lw_m2 61 rfl
theorem q313 : (Jvm.Cond.methodLink "java/lang/Throwable" (27 : Nat) ({ cls := "java/lang/Throwable", name := "fillInStackTrace", desc := "()Ljava/lang/Throwable;" } : Jvm.MethodName)) ∈ lw_all := lw_g (lw_at lw_m2 62 rfl) rfl
theorem q314 : (Jvm.Cond.instanceMethod ({ cls := "java/lang/Throwable", name := "fillInStackTrace", desc := "()Ljava/lang/Throwable;" } : Jvm.MethodName)) ∈ lw_all := lw_g (lw_at lw_m2 63 rfl) rfl
theorem q315 : (Jvm.Cond.sameMethod "java/lang/Throwable" "java/lang/Throwable" "fillInStackTrace" "()Ljava/lang/Throwable;") ∈ lw_all := lw_g (lw_at lw_m2 64 rfl) rfl
theorem q322 : (Jvm.Cond.codeSync ({ cls := "java/lang/Throwable", name := "fillInStackTrace", desc := "()Ljava/lang/Throwable;" } : Jvm.MethodName) prog_27_method_18_code (1 : Nat) (Option.some (Jvm.ClassFile.FieldType.object "java/lang/Throwable"))) ∈ lw_all := lw_g (lw_at lw_m2 71 rfl) rfl
theorem q323 : (Jvm.Cond.methodLink "java/lang/Throwable" (202 : Nat) ({ cls := "java/lang/Throwable", name := "fillInStackTrace", desc := "(I)Ljava/lang/Throwable;" } : Jvm.MethodName)) ∈ lw_all := lw_g (lw_at lw_m2 72 rfl) rfl
theorem q324 : (Jvm.Cond.privateMethod ({ cls := "java/lang/Throwable", name := "fillInStackTrace", desc := "(I)Ljava/lang/Throwable;" } : Jvm.MethodName)) ∈ lw_tbl := lw_at lw_m2 73 rfl
theorem q325 : (Jvm.Cond.instanceMethod ({ cls := "java/lang/Throwable", name := "fillInStackTrace", desc := "(I)Ljava/lang/Throwable;" } : Jvm.MethodName)) ∈ lw_all := lw_g (lw_at lw_m2 74 rfl) rfl
theorem q326 : (Jvm.Cond.instantiable "java/lang/Throwable" (6 : Nat)) ∈ lw_all := lw_g (lw_at lw_m2 75 rfl) rfl
theorem q327 : (Jvm.Cond.native ({ cls := "java/lang/Throwable", name := "fillInStackTrace", desc := "(I)Ljava/lang/Throwable;" } : Jvm.MethodName)) ∈ lw_all := lw_g (lw_at lw_m2 76 rfl) rfl
theorem q328 : (Jvm.Cond.fieldLink "java/lang/Throwable" (198 : Nat) "java/lang/Throwable" "backtrace" "Ljava/lang/Object;") ∈ lw_all := lw_g (lw_at lw_m2 77 rfl) rfl
theorem q329 : (Jvm.Cond.fieldLink "java/lang/Throwable" (31 : Nat) "java/lang/Throwable" "detailMessage" "Ljava/lang/String;") ∈ lw_all := lw_g (lw_at lw_m2 78 rfl) rfl
theorem q330 : (Jvm.Cond.fieldLink "java/lang/Throwable" (7 : Nat) "java/lang/Throwable" "cause" "Ljava/lang/Throwable;") ∈ lw_all := lw_g (lw_at lw_m2 79 rfl) rfl
theorem q331 : (Jvm.Cond.fieldLink "java/lang/Throwable" (17 : Nat) "java/lang/Throwable" "stackTrace" "[Ljava/lang/StackTraceElement;") ∈ lw_all := lw_g (lw_at lw_m2 80 rfl) rfl
theorem q332 : (Jvm.Cond.fieldLink "java/lang/Throwable" (24 : Nat) "java/lang/Throwable" "suppressedExceptions" "Ljava/util/List;") ∈ lw_all := lw_g (lw_at lw_m2 81 rfl) rfl
theorem q334 : (Jvm.Cond.soleField "java/lang/Throwable" "backtrace") ∈ lw_all := lw_g (lw_at lw_m2 83 rfl) rfl
theorem q336 : (Jvm.Cond.soleField "java/lang/Throwable" "detailMessage") ∈ lw_all := lw_g (lw_at lw_m2 85 rfl) rfl
theorem q338 : (Jvm.Cond.soleField "java/lang/Throwable" "cause") ∈ lw_all := lw_g (lw_at lw_m2 87 rfl) rfl
theorem q340 : (Jvm.Cond.soleField "java/lang/Throwable" "stackTrace") ∈ lw_all := lw_g (lw_at lw_m2 89 rfl) rfl
theorem q342 : (Jvm.Cond.soleField "java/lang/Throwable" "depth") ∈ lw_all := lw_g (lw_at lw_m2 91 rfl) rfl
theorem q344 : (Jvm.Cond.soleField "java/lang/Throwable" "suppressedExceptions") ∈ lw_all := lw_g (lw_at lw_m2 93 rfl) rfl
theorem q351 : (Jvm.Cond.declares ({ cls := "java/lang/Throwable", name := "<init>", desc := "()V" } : Jvm.MethodName)) ∈ lw_tbl := lw_at lw_m2 100 rfl
theorem q352 : (Jvm.Cond.declares ({ cls := "java/lang/Throwable", name := "<init>", desc := "(Ljava/lang/String;)V" } : Jvm.MethodName)) ∈ lw_tbl := lw_at lw_m2 101 rfl
theorem q354 : (Jvm.Cond.lays "java/lang/Throwable" "java/lang/Throwable" "cause" "Ljava/lang/Throwable;") ∈ lw_all := lw_g (lw_at lw_m2 103 rfl) rfl
theorem q355 : (Jvm.Cond.lays "java/lang/Throwable" "java/lang/Throwable" "stackTrace" "[Ljava/lang/StackTraceElement;") ∈ lw_all := lw_g (lw_at lw_m2 104 rfl) rfl
theorem q356 : (Jvm.Cond.lays "java/lang/Throwable" "java/lang/Throwable" "suppressedExceptions" "Ljava/util/List;") ∈ lw_all := lw_g (lw_at lw_m2 105 rfl) rfl
theorem q357 : (Jvm.Cond.lays "java/lang/Throwable" "java/lang/Throwable" "detailMessage" "Ljava/lang/String;") ∈ lw_all := lw_g (lw_at lw_m2 106 rfl) rfl
theorem q358 : (Jvm.Cond.lays "java/lang/Throwable" "java/lang/Throwable" "backtrace" "Ljava/lang/Object;") ∈ lw_all := lw_g (lw_at lw_m2 107 rfl) rfl
theorem q359 : (Jvm.Cond.fieldLink "java/lang/Throwable" (198 : Nat) "java/lang/Throwable" "backtrace" "Ljava/lang/Object;") ∈ lw_all := lw_g (lw_at lw_m2 108 rfl) rfl
theorem q360 : (Jvm.Cond.superclass "java/lang/Throwable" "java/lang/Object") ∈ lw_all := lw_g (lw_at lw_m2 109 rfl) rfl
theorem q361 : (Jvm.Cond.instanceMethod ({ cls := "java/lang/Throwable", name := "<init>", desc := "()V" } : Jvm.MethodName)) ∈ lw_all := lw_g (lw_at lw_m2 110 rfl) rfl
theorem q362 : (Jvm.Cond.code ({ cls := "java/lang/Throwable", name := "<init>", desc := "()V" } : Jvm.MethodName) prog_27_method_1_code (1 : Nat) (Option.none : Option Jvm.ClassFile.FieldType)) ∈ lw_all := lw_g (lw_at lw_m2 111 rfl) rfl
theorem q658 : (Jvm.Cond.sameMethod "java/lang/Throwable" "java/lang/Throwable" "fillInStackTrace" "(I)Ljava/lang/Throwable;") ∈ lw_all := lw_g (lw_at lw_m3 167 rfl) rfl
theorem q674 : (Jvm.Cond.castable "java/lang/Throwable" "java/lang/Object") ∈ lw_tbl := lw_at lw_m3 183 rfl
theorem in_J10 : ∀ w ∈ wsJ100, w ∈ lw_all := lw_in wsJ100 [354, 355, 356, 357, 358] (by decide +kernel) (by decide +kernel)

/-! java/lang/Exception -/
set_option maxRecDepth 100000
def RJ11 : String := "java/lang/Exception"
abbrev cJ11_init : ByteArray := prog_14_method_2_code
def yJ11_init : MethodName := ⟨RJ11, "<init>", "(Ljava/lang/String;)V"⟩
theorem dJ11_init_0 : decode cJ11_init 0 = .ok (.aload_n 0, 1) := by decide +kernel
theorem dJ11_init_1 : decode cJ11_init 1 = .ok (.aload_n 1, 1) := by decide +kernel
theorem dJ11_init_2 : decode cJ11_init 2 = .ok (.invokespecial 7, 3) := by decide +kernel
theorem dJ11_init_5 : decode cJ11_init 5 = .ok (.return_, 1) := by decide +kernel
abbrev cJ11_init_2 : ByteArray := prog_14_method_1_code
def yJ11_init_2 : MethodName := ⟨RJ11, "<init>", "()V"⟩
theorem dJ11_init_2_0 : decode cJ11_init_2 0 = .ok (.aload_n 0, 1) := by decide +kernel
theorem dJ11_init_2_1 : decode cJ11_init_2 1 = .ok (.invokespecial 1, 3) := by decide +kernel
theorem dJ11_init_2_4 : decode cJ11_init_2 4 = .ok (.return_, 1) := by decide +kernel
theorem q31 : (Jvm.Cond.initialized "java/lang/Exception") ∈ lw_all := lw_g (lw_at lw_m1 20 rfl) rfl
theorem q303 : (Jvm.Cond.instanceMethod ({ cls := "java/lang/Exception", name := "<init>", desc := "(Ljava/lang/String;)V" } : Jvm.MethodName)) ∈ lw_all := lw_g (lw_at lw_m2 52 rfl) rfl
theorem q304 : (Jvm.Cond.code ({ cls := "java/lang/Exception", name := "<init>", desc := "(Ljava/lang/String;)V" } : Jvm.MethodName) prog_14_method_2_code (2 : Nat) (Option.none : Option Jvm.ClassFile.FieldType)) ∈ lw_all := lw_g (lw_at lw_m2 53 rfl) rfl
theorem q305 : (Jvm.Cond.methodLink "java/lang/Exception" (7 : Nat) ({ cls := "java/lang/Throwable", name := "<init>", desc := "(Ljava/lang/String;)V" } : Jvm.MethodName)) ∈ lw_all := lw_g (lw_at lw_m2 54 rfl) rfl
theorem q349 : (Jvm.Cond.declares ({ cls := "java/lang/Exception", name := "<init>", desc := "()V" } : Jvm.MethodName)) ∈ lw_tbl := lw_at lw_m2 98 rfl
theorem q350 : (Jvm.Cond.declares ({ cls := "java/lang/Exception", name := "<init>", desc := "(Ljava/lang/String;)V" } : Jvm.MethodName)) ∈ lw_tbl := lw_at lw_m2 99 rfl
theorem q438 : (Jvm.Cond.instanceMethod ({ cls := "java/lang/Exception", name := "<init>", desc := "()V" } : Jvm.MethodName)) ∈ lw_all := lw_g (lw_at lw_m2 187 rfl) rfl
theorem q439 : (Jvm.Cond.code ({ cls := "java/lang/Exception", name := "<init>", desc := "()V" } : Jvm.MethodName) prog_14_method_1_code (1 : Nat) (Option.none : Option Jvm.ClassFile.FieldType)) ∈ lw_all := lw_g (lw_at lw_m2 188 rfl) rfl
theorem q440 : (Jvm.Cond.methodLink "java/lang/Exception" (1 : Nat) ({ cls := "java/lang/Throwable", name := "<init>", desc := "()V" } : Jvm.MethodName)) ∈ lw_all := lw_g (lw_at lw_m2 189 rfl) rfl

/-! java/lang/RuntimeException -/
set_option maxRecDepth 100000
def RJ12 : String := "java/lang/RuntimeException"
abbrev cJ12_init : ByteArray := prog_24_method_2_code
def yJ12_init : MethodName := ⟨RJ12, "<init>", "(Ljava/lang/String;)V"⟩
theorem dJ12_init_0 : decode cJ12_init 0 = .ok (.aload_n 0, 1) := by decide +kernel
theorem dJ12_init_1 : decode cJ12_init 1 = .ok (.aload_n 1, 1) := by decide +kernel
theorem dJ12_init_2 : decode cJ12_init 2 = .ok (.invokespecial 7, 3) := by decide +kernel
theorem dJ12_init_5 : decode cJ12_init 5 = .ok (.return_, 1) := by decide +kernel
abbrev cJ12_init_2 : ByteArray := prog_24_method_1_code
def yJ12_init_2 : MethodName := ⟨RJ12, "<init>", "()V"⟩
theorem dJ12_init_2_0 : decode cJ12_init_2 0 = .ok (.aload_n 0, 1) := by decide +kernel
theorem dJ12_init_2_1 : decode cJ12_init_2 1 = .ok (.invokespecial 1, 3) := by decide +kernel
theorem dJ12_init_2_4 : decode cJ12_init_2 4 = .ok (.return_, 1) := by decide +kernel
theorem q32 : (Jvm.Cond.initialized "java/lang/RuntimeException") ∈ lw_all := lw_g (lw_at lw_m1 21 rfl) rfl
theorem q300 : (Jvm.Cond.instanceMethod ({ cls := "java/lang/RuntimeException", name := "<init>", desc := "(Ljava/lang/String;)V" } : Jvm.MethodName)) ∈ lw_all := lw_g (lw_at lw_m2 49 rfl) rfl
theorem q301 : (Jvm.Cond.code ({ cls := "java/lang/RuntimeException", name := "<init>", desc := "(Ljava/lang/String;)V" } : Jvm.MethodName) prog_24_method_2_code (2 : Nat) (Option.none : Option Jvm.ClassFile.FieldType)) ∈ lw_all := lw_g (lw_at lw_m2 50 rfl) rfl
theorem q302 : (Jvm.Cond.methodLink "java/lang/RuntimeException" (7 : Nat) ({ cls := "java/lang/Exception", name := "<init>", desc := "(Ljava/lang/String;)V" } : Jvm.MethodName)) ∈ lw_all := lw_g (lw_at lw_m2 51 rfl) rfl
theorem q347 : (Jvm.Cond.declares ({ cls := "java/lang/RuntimeException", name := "<init>", desc := "()V" } : Jvm.MethodName)) ∈ lw_tbl := lw_at lw_m2 96 rfl
theorem q348 : (Jvm.Cond.declares ({ cls := "java/lang/RuntimeException", name := "<init>", desc := "(Ljava/lang/String;)V" } : Jvm.MethodName)) ∈ lw_tbl := lw_at lw_m2 97 rfl
theorem q435 : (Jvm.Cond.instanceMethod ({ cls := "java/lang/RuntimeException", name := "<init>", desc := "()V" } : Jvm.MethodName)) ∈ lw_all := lw_g (lw_at lw_m2 184 rfl) rfl
theorem q436 : (Jvm.Cond.code ({ cls := "java/lang/RuntimeException", name := "<init>", desc := "()V" } : Jvm.MethodName) prog_24_method_1_code (1 : Nat) (Option.none : Option Jvm.ClassFile.FieldType)) ∈ lw_all := lw_g (lw_at lw_m2 185 rfl) rfl
theorem q437 : (Jvm.Cond.methodLink "java/lang/RuntimeException" (1 : Nat) ({ cls := "java/lang/Exception", name := "<init>", desc := "()V" } : Jvm.MethodName)) ∈ lw_all := lw_g (lw_at lw_m2 186 rfl) rfl

/-! java/lang/ArithmeticException -/
set_option maxRecDepth 100000
def RJ13 : String := "java/lang/ArithmeticException"
def TJ13 : u_T := fun k => match k with
  | 0 => ("java/lang/Throwable", "backtrace", "Ljava/lang/Object;", false)
  | 1 => ("java/lang/Throwable", "detailMessage", "Ljava/lang/String;", false)
  | 2 => ("java/lang/Throwable", "cause", "Ljava/lang/Throwable;", false)
  | 3 => ("java/lang/Throwable", "stackTrace", "[Ljava/lang/StackTraceElement;", false)
  | 4 => ("java/lang/Throwable", "depth", "I", false)
  | _ => ("java/lang/Throwable", "suppressedExceptions", "Ljava/util/List;", false)
def tyJ13 : Nat → FieldType := fun k => match k with
  | 0 => .object "java/lang/Object"
  | 1 => .object "java/lang/String"
  | 2 => .object "java/lang/Throwable"
  | 3 => .array (.object "java/lang/StackTraceElement")
  | 4 => .int
  | _ => .object "java/util/List"
abbrev wsJ130 : List Cond := u_ws RJ13 TJ13 6
theorem nmJ13 : ∀ a, a < 6 → ∀ b, b < 6 → a ≠ b → (TJ13 a).2.1 ≠ (TJ13 b).2.1 := by decide +kernel
theorem tyJ13_ok : ∀ k, k < 6 → parseFieldDescriptor (TJ13 k).2.2.1 = some (tyJ13 k) := by decide +kernel
abbrev cJ13_init : ByteArray := prog_9_method_2_code
def yJ13_init : MethodName := ⟨RJ13, "<init>", "(Ljava/lang/String;)V"⟩
theorem dJ13_init_0 : decode cJ13_init 0 = .ok (.aload_n 0, 1) := by decide +kernel
theorem dJ13_init_1 : decode cJ13_init 1 = .ok (.aload_n 1, 1) := by decide +kernel
theorem dJ13_init_2 : decode cJ13_init 2 = .ok (.invokespecial 7, 3) := by decide +kernel
theorem dJ13_init_5 : decode cJ13_init 5 = .ok (.return_, 1) := by decide +kernel
theorem q33 : (Jvm.Cond.initialized "java/lang/ArithmeticException") ∈ lw_all := lw_g (lw_at lw_m1 22 rfl) rfl
theorem q120 : (Jvm.Cond.selects "java/lang/ArithmeticException" ({ cls := "java/lang/Object", name := "getClass", desc := "()Ljava/lang/Class;" } : Jvm.MethodName) ({ cls := "java/lang/Object", name := "getClass", desc := "()Ljava/lang/Class;" } : Jvm.MethodName)) ∈ lw_all := lw_g (lw_at lw_m1 109 rfl) rfl
theorem q296 : (Jvm.Cond.instantiable "java/lang/ArithmeticException" (6 : Nat)) ∈ lw_all := lw_g (lw_at lw_m2 45 rfl) rfl
theorem q297 : (Jvm.Cond.instanceMethod ({ cls := "java/lang/ArithmeticException", name := "<init>", desc := "(Ljava/lang/String;)V" } : Jvm.MethodName)) ∈ lw_all := lw_g (lw_at lw_m2 46 rfl) rfl
theorem q298 : (Jvm.Cond.code ({ cls := "java/lang/ArithmeticException", name := "<init>", desc := "(Ljava/lang/String;)V" } : Jvm.MethodName) prog_9_method_2_code (2 : Nat) (Option.none : Option Jvm.ClassFile.FieldType)) ∈ lw_all := lw_g (lw_at lw_m2 47 rfl) rfl
theorem q299 : (Jvm.Cond.methodLink "java/lang/ArithmeticException" (7 : Nat) ({ cls := "java/lang/RuntimeException", name := "<init>", desc := "(Ljava/lang/String;)V" } : Jvm.MethodName)) ∈ lw_all := lw_g (lw_at lw_m2 48 rfl) rfl
theorem q317 : (Jvm.Cond.selects "java/lang/ArithmeticException" ({ cls := "java/lang/Throwable", name := "fillInStackTrace", desc := "()Ljava/lang/Throwable;" } : Jvm.MethodName) ({ cls := "java/lang/Throwable", name := "fillInStackTrace", desc := "()Ljava/lang/Throwable;" } : Jvm.MethodName)) ∈ lw_all := lw_g (lw_at lw_m2 66 rfl) rfl
theorem q333 : (Jvm.Cond.lays "java/lang/ArithmeticException" "java/lang/Throwable" "backtrace" "Ljava/lang/Object;") ∈ lw_all := lw_g (lw_at lw_m2 82 rfl) rfl
theorem q335 : (Jvm.Cond.lays "java/lang/ArithmeticException" "java/lang/Throwable" "detailMessage" "Ljava/lang/String;") ∈ lw_all := lw_g (lw_at lw_m2 84 rfl) rfl
theorem q337 : (Jvm.Cond.lays "java/lang/ArithmeticException" "java/lang/Throwable" "cause" "Ljava/lang/Throwable;") ∈ lw_all := lw_g (lw_at lw_m2 86 rfl) rfl
theorem q339 : (Jvm.Cond.lays "java/lang/ArithmeticException" "java/lang/Throwable" "stackTrace" "[Ljava/lang/StackTraceElement;") ∈ lw_all := lw_g (lw_at lw_m2 88 rfl) rfl
theorem q341 : (Jvm.Cond.lays "java/lang/ArithmeticException" "java/lang/Throwable" "depth" "I") ∈ lw_all := lw_g (lw_at lw_m2 90 rfl) rfl
theorem q343 : (Jvm.Cond.lays "java/lang/ArithmeticException" "java/lang/Throwable" "suppressedExceptions" "Ljava/util/List;") ∈ lw_all := lw_g (lw_at lw_m2 92 rfl) rfl
theorem q345 : (Jvm.Cond.superclass "java/lang/ArithmeticException" "java/lang/RuntimeException") ∈ lw_all := lw_g (lw_at lw_m2 94 rfl) rfl
theorem q346 : (Jvm.Cond.castable "java/lang/ArithmeticException" "java/lang/ArithmeticException") ∈ lw_tbl := lw_at lw_m2 95 rfl
theorem q353 : (Jvm.Cond.selects "java/lang/ArithmeticException" ({ cls := "java/lang/Throwable", name := "fillInStackTrace", desc := "(I)Ljava/lang/Throwable;" } : Jvm.MethodName) ({ cls := "java/lang/Throwable", name := "fillInStackTrace", desc := "(I)Ljava/lang/Throwable;" } : Jvm.MethodName)) ∈ lw_all := lw_g (lw_at lw_m2 102 rfl) rfl
theorem q667 : (Jvm.Cond.castable "java/lang/ArithmeticException" "java/lang/Object") ∈ lw_tbl := lw_at lw_m3 176 rfl
theorem in_J13 : ∀ w ∈ wsJ130, w ∈ lw_all := lw_in wsJ130 [333, 335, 337, 339, 341, 343] (by decide +kernel) (by decide +kernel)

/-! java/lang/String -/
set_option maxRecDepth 100000
def RJ14 : String := "java/lang/String"
def TJ14 : u_T := fun k => match k with
  | 0 => ("java/lang/String", "value", "[B", true)
  | _ => ("java/lang/String", "coder", "B", true)
def tyJ14 : Nat → FieldType := fun k => match k with
  | 0 => .array .byte
  | _ => .byte
abbrev wsJ140 : List Cond := u_ws RJ14 TJ14 2
theorem nmJ14 : ∀ a, a < 2 → ∀ b, b < 2 → a ≠ b → (TJ14 a).2.1 ≠ (TJ14 b).2.1 := by decide +kernel
theorem tyJ14_ok : ∀ k, k < 2 → parseFieldDescriptor (TJ14 k).2.2.1 = some (tyJ14 k) := by decide +kernel
theorem q34 : (Jvm.Cond.initialized "java/lang/String") ∈ lw_all := lw_g (lw_at lw_m1 23 rfl) rfl
theorem q363 : (Jvm.Cond.instantiable "java/lang/String" (4 : Nat)) ∈ lw_all := lw_g (lw_at lw_m2 112 rfl) rfl
theorem q365 : (Jvm.Cond.laysFinal "java/lang/String" "java/lang/String" "value" "[B") ∈ lw_all := lw_g (lw_at lw_m2 114 rfl) rfl
theorem q366 : (Jvm.Cond.soleField "java/lang/String" "value") ∈ lw_all := lw_g (lw_at lw_m2 115 rfl) rfl
theorem q367 : (Jvm.Cond.laysFinal "java/lang/String" "java/lang/String" "coder" "B") ∈ lw_all := lw_g (lw_at lw_m2 116 rfl) rfl
theorem q368 : (Jvm.Cond.soleField "java/lang/String" "coder") ∈ lw_all := lw_g (lw_at lw_m2 117 rfl) rfl
theorem q675 : (Jvm.Cond.castable "java/lang/String" "java/lang/Object") ∈ lw_tbl := lw_at lw_m3 184 rfl
theorem in_J14 : ∀ w ∈ wsJ140, w ∈ lw_all := lw_in wsJ140 [365, 367] (by decide +kernel) (by decide +kernel)

/-! java/lang/IndexOutOfBoundsException -/
set_option maxRecDepth 100000
def RJ15 : String := "java/lang/IndexOutOfBoundsException"
abbrev cJ15_init : ByteArray := prog_17_method_2_code
def yJ15_init : MethodName := ⟨RJ15, "<init>", "(Ljava/lang/String;)V"⟩
theorem dJ15_init_0 : decode cJ15_init 0 = .ok (.aload_n 0, 1) := by decide +kernel
theorem dJ15_init_1 : decode cJ15_init 1 = .ok (.aload_n 1, 1) := by decide +kernel
theorem dJ15_init_2 : decode cJ15_init 2 = .ok (.invokespecial 7, 3) := by decide +kernel
theorem dJ15_init_5 : decode cJ15_init 5 = .ok (.return_, 1) := by decide +kernel
theorem q35 : (Jvm.Cond.initialized "java/lang/IndexOutOfBoundsException") ∈ lw_all := lw_g (lw_at lw_m1 24 rfl) rfl
theorem q374 : (Jvm.Cond.instanceMethod ({ cls := "java/lang/IndexOutOfBoundsException", name := "<init>", desc := "(Ljava/lang/String;)V" } : Jvm.MethodName)) ∈ lw_all := lw_g (lw_at lw_m2 123 rfl) rfl
theorem q375 : (Jvm.Cond.code ({ cls := "java/lang/IndexOutOfBoundsException", name := "<init>", desc := "(Ljava/lang/String;)V" } : Jvm.MethodName) prog_17_method_2_code (2 : Nat) (Option.none : Option Jvm.ClassFile.FieldType)) ∈ lw_all := lw_g (lw_at lw_m2 124 rfl) rfl
theorem q376 : (Jvm.Cond.methodLink "java/lang/IndexOutOfBoundsException" (7 : Nat) ({ cls := "java/lang/RuntimeException", name := "<init>", desc := "(Ljava/lang/String;)V" } : Jvm.MethodName)) ∈ lw_all := lw_g (lw_at lw_m2 125 rfl) rfl
theorem q385 : (Jvm.Cond.declares ({ cls := "java/lang/IndexOutOfBoundsException", name := "<init>", desc := "()V" } : Jvm.MethodName)) ∈ lw_tbl := lw_at lw_m2 134 rfl
theorem q386 : (Jvm.Cond.declares ({ cls := "java/lang/IndexOutOfBoundsException", name := "<init>", desc := "(Ljava/lang/String;)V" } : Jvm.MethodName)) ∈ lw_tbl := lw_at lw_m2 135 rfl

/-! java/lang/ArrayIndexOutOfBoundsException -/
set_option maxRecDepth 100000
def RJ16 : String := "java/lang/ArrayIndexOutOfBoundsException"
def TJ16 : u_T := fun k => match k with
  | 0 => ("java/lang/Throwable", "backtrace", "Ljava/lang/Object;", false)
  | 1 => ("java/lang/Throwable", "detailMessage", "Ljava/lang/String;", false)
  | 2 => ("java/lang/Throwable", "cause", "Ljava/lang/Throwable;", false)
  | 3 => ("java/lang/Throwable", "stackTrace", "[Ljava/lang/StackTraceElement;", false)
  | 4 => ("java/lang/Throwable", "depth", "I", false)
  | _ => ("java/lang/Throwable", "suppressedExceptions", "Ljava/util/List;", false)
def tyJ16 : Nat → FieldType := fun k => match k with
  | 0 => .object "java/lang/Object"
  | 1 => .object "java/lang/String"
  | 2 => .object "java/lang/Throwable"
  | 3 => .array (.object "java/lang/StackTraceElement")
  | 4 => .int
  | _ => .object "java/util/List"
abbrev wsJ160 : List Cond := u_ws RJ16 TJ16 6
theorem nmJ16 : ∀ a, a < 6 → ∀ b, b < 6 → a ≠ b → (TJ16 a).2.1 ≠ (TJ16 b).2.1 := by decide +kernel
theorem tyJ16_ok : ∀ k, k < 6 → parseFieldDescriptor (TJ16 k).2.2.1 = some (tyJ16 k) := by decide +kernel
abbrev cJ16_init : ByteArray := prog_10_method_2_code
def yJ16_init : MethodName := ⟨RJ16, "<init>", "(Ljava/lang/String;)V"⟩
theorem dJ16_init_0 : decode cJ16_init 0 = .ok (.aload_n 0, 1) := by decide +kernel
theorem dJ16_init_1 : decode cJ16_init 1 = .ok (.aload_n 1, 1) := by decide +kernel
theorem dJ16_init_2 : decode cJ16_init 2 = .ok (.invokespecial 7, 3) := by decide +kernel
theorem dJ16_init_5 : decode cJ16_init 5 = .ok (.return_, 1) := by decide +kernel
theorem q36 : (Jvm.Cond.initialized "java/lang/ArrayIndexOutOfBoundsException") ∈ lw_all := lw_g (lw_at lw_m1 25 rfl) rfl
theorem q121 : (Jvm.Cond.selects "java/lang/ArrayIndexOutOfBoundsException" ({ cls := "java/lang/Object", name := "getClass", desc := "()Ljava/lang/Class;" } : Jvm.MethodName) ({ cls := "java/lang/Object", name := "getClass", desc := "()Ljava/lang/Class;" } : Jvm.MethodName)) ∈ lw_all := lw_g (lw_at lw_m1 110 rfl) rfl
theorem q318 : (Jvm.Cond.selects "java/lang/ArrayIndexOutOfBoundsException" ({ cls := "java/lang/Throwable", name := "fillInStackTrace", desc := "()Ljava/lang/Throwable;" } : Jvm.MethodName) ({ cls := "java/lang/Throwable", name := "fillInStackTrace", desc := "()Ljava/lang/Throwable;" } : Jvm.MethodName)) ∈ lw_all := lw_g (lw_at lw_m2 67 rfl) rfl
theorem q370 : (Jvm.Cond.instantiable "java/lang/ArrayIndexOutOfBoundsException" (6 : Nat)) ∈ lw_all := lw_g (lw_at lw_m2 119 rfl) rfl
theorem q371 : (Jvm.Cond.instanceMethod ({ cls := "java/lang/ArrayIndexOutOfBoundsException", name := "<init>", desc := "(Ljava/lang/String;)V" } : Jvm.MethodName)) ∈ lw_all := lw_g (lw_at lw_m2 120 rfl) rfl
theorem q372 : (Jvm.Cond.code ({ cls := "java/lang/ArrayIndexOutOfBoundsException", name := "<init>", desc := "(Ljava/lang/String;)V" } : Jvm.MethodName) prog_10_method_2_code (2 : Nat) (Option.none : Option Jvm.ClassFile.FieldType)) ∈ lw_all := lw_g (lw_at lw_m2 121 rfl) rfl
theorem q373 : (Jvm.Cond.methodLink "java/lang/ArrayIndexOutOfBoundsException" (7 : Nat) ({ cls := "java/lang/IndexOutOfBoundsException", name := "<init>", desc := "(Ljava/lang/String;)V" } : Jvm.MethodName)) ∈ lw_all := lw_g (lw_at lw_m2 122 rfl) rfl
theorem q377 : (Jvm.Cond.lays "java/lang/ArrayIndexOutOfBoundsException" "java/lang/Throwable" "backtrace" "Ljava/lang/Object;") ∈ lw_all := lw_g (lw_at lw_m2 126 rfl) rfl
theorem q378 : (Jvm.Cond.lays "java/lang/ArrayIndexOutOfBoundsException" "java/lang/Throwable" "detailMessage" "Ljava/lang/String;") ∈ lw_all := lw_g (lw_at lw_m2 127 rfl) rfl
theorem q379 : (Jvm.Cond.lays "java/lang/ArrayIndexOutOfBoundsException" "java/lang/Throwable" "cause" "Ljava/lang/Throwable;") ∈ lw_all := lw_g (lw_at lw_m2 128 rfl) rfl
theorem q380 : (Jvm.Cond.lays "java/lang/ArrayIndexOutOfBoundsException" "java/lang/Throwable" "stackTrace" "[Ljava/lang/StackTraceElement;") ∈ lw_all := lw_g (lw_at lw_m2 129 rfl) rfl
theorem q381 : (Jvm.Cond.lays "java/lang/ArrayIndexOutOfBoundsException" "java/lang/Throwable" "depth" "I") ∈ lw_all := lw_g (lw_at lw_m2 130 rfl) rfl
theorem q382 : (Jvm.Cond.lays "java/lang/ArrayIndexOutOfBoundsException" "java/lang/Throwable" "suppressedExceptions" "Ljava/util/List;") ∈ lw_all := lw_g (lw_at lw_m2 131 rfl) rfl
theorem q383 : (Jvm.Cond.superclass "java/lang/ArrayIndexOutOfBoundsException" "java/lang/IndexOutOfBoundsException") ∈ lw_all := lw_g (lw_at lw_m2 132 rfl) rfl
theorem q384 : (Jvm.Cond.castable "java/lang/ArrayIndexOutOfBoundsException" "java/lang/ArrayIndexOutOfBoundsException") ∈ lw_tbl := lw_at lw_m2 133 rfl
theorem q387 : (Jvm.Cond.selects "java/lang/ArrayIndexOutOfBoundsException" ({ cls := "java/lang/Throwable", name := "fillInStackTrace", desc := "(I)Ljava/lang/Throwable;" } : Jvm.MethodName) ({ cls := "java/lang/Throwable", name := "fillInStackTrace", desc := "(I)Ljava/lang/Throwable;" } : Jvm.MethodName)) ∈ lw_all := lw_g (lw_at lw_m2 136 rfl) rfl
theorem q668 : (Jvm.Cond.castable "java/lang/ArrayIndexOutOfBoundsException" "java/lang/Object") ∈ lw_tbl := lw_at lw_m3 177 rfl
theorem in_J16 : ∀ w ∈ wsJ160, w ∈ lw_all := lw_in wsJ160 [377, 378, 379, 380, 381, 382] (by decide +kernel) (by decide +kernel)

/-! java/lang/NegativeArraySizeException -/
set_option maxRecDepth 100000
def RJ17 : String := "java/lang/NegativeArraySizeException"
def TJ17 : u_T := fun k => match k with
  | 0 => ("java/lang/Throwable", "backtrace", "Ljava/lang/Object;", false)
  | 1 => ("java/lang/Throwable", "detailMessage", "Ljava/lang/String;", false)
  | 2 => ("java/lang/Throwable", "cause", "Ljava/lang/Throwable;", false)
  | 3 => ("java/lang/Throwable", "stackTrace", "[Ljava/lang/StackTraceElement;", false)
  | 4 => ("java/lang/Throwable", "depth", "I", false)
  | _ => ("java/lang/Throwable", "suppressedExceptions", "Ljava/util/List;", false)
def tyJ17 : Nat → FieldType := fun k => match k with
  | 0 => .object "java/lang/Object"
  | 1 => .object "java/lang/String"
  | 2 => .object "java/lang/Throwable"
  | 3 => .array (.object "java/lang/StackTraceElement")
  | 4 => .int
  | _ => .object "java/util/List"
abbrev wsJ170 : List Cond := u_ws RJ17 TJ17 6
theorem nmJ17 : ∀ a, a < 6 → ∀ b, b < 6 → a ≠ b → (TJ17 a).2.1 ≠ (TJ17 b).2.1 := by decide +kernel
theorem tyJ17_ok : ∀ k, k < 6 → parseFieldDescriptor (TJ17 k).2.2.1 = some (tyJ17 k) := by decide +kernel
abbrev cJ17_init : ByteArray := prog_22_method_2_code
def yJ17_init : MethodName := ⟨RJ17, "<init>", "(Ljava/lang/String;)V"⟩
theorem dJ17_init_0 : decode cJ17_init 0 = .ok (.aload_n 0, 1) := by decide +kernel
theorem dJ17_init_1 : decode cJ17_init 1 = .ok (.aload_n 1, 1) := by decide +kernel
theorem dJ17_init_2 : decode cJ17_init 2 = .ok (.invokespecial 7, 3) := by decide +kernel
theorem dJ17_init_5 : decode cJ17_init 5 = .ok (.return_, 1) := by decide +kernel
theorem q37 : (Jvm.Cond.initialized "java/lang/NegativeArraySizeException") ∈ lw_all := lw_g (lw_at lw_m1 26 rfl) rfl
theorem q124 : (Jvm.Cond.selects "java/lang/NegativeArraySizeException" ({ cls := "java/lang/Object", name := "getClass", desc := "()Ljava/lang/Class;" } : Jvm.MethodName) ({ cls := "java/lang/Object", name := "getClass", desc := "()Ljava/lang/Class;" } : Jvm.MethodName)) ∈ lw_all := lw_g (lw_at lw_m1 113 rfl) rfl
theorem q320 : (Jvm.Cond.selects "java/lang/NegativeArraySizeException" ({ cls := "java/lang/Throwable", name := "fillInStackTrace", desc := "()Ljava/lang/Throwable;" } : Jvm.MethodName) ({ cls := "java/lang/Throwable", name := "fillInStackTrace", desc := "()Ljava/lang/Throwable;" } : Jvm.MethodName)) ∈ lw_all := lw_g (lw_at lw_m2 69 rfl) rfl
theorem q389 : (Jvm.Cond.instantiable "java/lang/NegativeArraySizeException" (6 : Nat)) ∈ lw_all := lw_g (lw_at lw_m2 138 rfl) rfl
theorem q390 : (Jvm.Cond.instanceMethod ({ cls := "java/lang/NegativeArraySizeException", name := "<init>", desc := "(Ljava/lang/String;)V" } : Jvm.MethodName)) ∈ lw_all := lw_g (lw_at lw_m2 139 rfl) rfl
theorem q391 : (Jvm.Cond.code ({ cls := "java/lang/NegativeArraySizeException", name := "<init>", desc := "(Ljava/lang/String;)V" } : Jvm.MethodName) prog_22_method_2_code (2 : Nat) (Option.none : Option Jvm.ClassFile.FieldType)) ∈ lw_all := lw_g (lw_at lw_m2 140 rfl) rfl
theorem q392 : (Jvm.Cond.methodLink "java/lang/NegativeArraySizeException" (7 : Nat) ({ cls := "java/lang/RuntimeException", name := "<init>", desc := "(Ljava/lang/String;)V" } : Jvm.MethodName)) ∈ lw_all := lw_g (lw_at lw_m2 141 rfl) rfl
theorem q393 : (Jvm.Cond.lays "java/lang/NegativeArraySizeException" "java/lang/Throwable" "backtrace" "Ljava/lang/Object;") ∈ lw_all := lw_g (lw_at lw_m2 142 rfl) rfl
theorem q394 : (Jvm.Cond.lays "java/lang/NegativeArraySizeException" "java/lang/Throwable" "detailMessage" "Ljava/lang/String;") ∈ lw_all := lw_g (lw_at lw_m2 143 rfl) rfl
theorem q395 : (Jvm.Cond.lays "java/lang/NegativeArraySizeException" "java/lang/Throwable" "cause" "Ljava/lang/Throwable;") ∈ lw_all := lw_g (lw_at lw_m2 144 rfl) rfl
theorem q396 : (Jvm.Cond.lays "java/lang/NegativeArraySizeException" "java/lang/Throwable" "stackTrace" "[Ljava/lang/StackTraceElement;") ∈ lw_all := lw_g (lw_at lw_m2 145 rfl) rfl
theorem q397 : (Jvm.Cond.lays "java/lang/NegativeArraySizeException" "java/lang/Throwable" "depth" "I") ∈ lw_all := lw_g (lw_at lw_m2 146 rfl) rfl
theorem q398 : (Jvm.Cond.lays "java/lang/NegativeArraySizeException" "java/lang/Throwable" "suppressedExceptions" "Ljava/util/List;") ∈ lw_all := lw_g (lw_at lw_m2 147 rfl) rfl
theorem q399 : (Jvm.Cond.superclass "java/lang/NegativeArraySizeException" "java/lang/RuntimeException") ∈ lw_all := lw_g (lw_at lw_m2 148 rfl) rfl
theorem q400 : (Jvm.Cond.castable "java/lang/NegativeArraySizeException" "java/lang/NegativeArraySizeException") ∈ lw_tbl := lw_at lw_m2 149 rfl
theorem q401 : (Jvm.Cond.selects "java/lang/NegativeArraySizeException" ({ cls := "java/lang/Throwable", name := "fillInStackTrace", desc := "(I)Ljava/lang/Throwable;" } : Jvm.MethodName) ({ cls := "java/lang/Throwable", name := "fillInStackTrace", desc := "(I)Ljava/lang/Throwable;" } : Jvm.MethodName)) ∈ lw_all := lw_g (lw_at lw_m2 150 rfl) rfl
theorem q669 : (Jvm.Cond.castable "java/lang/NegativeArraySizeException" "java/lang/Object") ∈ lw_tbl := lw_at lw_m3 178 rfl
theorem in_J17 : ∀ w ∈ wsJ170, w ∈ lw_all := lw_in wsJ170 [393, 394, 395, 396, 397, 398] (by decide +kernel) (by decide +kernel)

/-! java/lang/IllegalStateException -/
set_option maxRecDepth 100000
def RJ18 : String := "java/lang/IllegalStateException"
abbrev cJ18_init : ByteArray := prog_16_method_1_code
def yJ18_init : MethodName := ⟨RJ18, "<init>", "()V"⟩
theorem dJ18_init_0 : decode cJ18_init 0 = .ok (.aload_n 0, 1) := by decide +kernel
theorem dJ18_init_1 : decode cJ18_init 1 = .ok (.invokespecial 1, 3) := by decide +kernel
theorem dJ18_init_4 : decode cJ18_init 4 = .ok (.return_, 1) := by decide +kernel
theorem q38 : (Jvm.Cond.initialized "java/lang/IllegalStateException") ∈ lw_all := lw_g (lw_at lw_m1 27 rfl) rfl
theorem q420 : (Jvm.Cond.declares ({ cls := "java/lang/IllegalStateException", name := "<init>", desc := "()V" } : Jvm.MethodName)) ∈ lw_tbl := lw_at lw_m2 169 rfl
theorem q421 : (Jvm.Cond.declares ({ cls := "java/lang/IllegalStateException", name := "<init>", desc := "(Ljava/lang/String;)V" } : Jvm.MethodName)) ∈ lw_tbl := lw_at lw_m2 170 rfl
theorem q432 : (Jvm.Cond.instanceMethod ({ cls := "java/lang/IllegalStateException", name := "<init>", desc := "()V" } : Jvm.MethodName)) ∈ lw_all := lw_g (lw_at lw_m2 181 rfl) rfl
theorem q433 : (Jvm.Cond.code ({ cls := "java/lang/IllegalStateException", name := "<init>", desc := "()V" } : Jvm.MethodName) prog_16_method_1_code (1 : Nat) (Option.none : Option Jvm.ClassFile.FieldType)) ∈ lw_all := lw_g (lw_at lw_m2 182 rfl) rfl
theorem q434 : (Jvm.Cond.methodLink "java/lang/IllegalStateException" (1 : Nat) ({ cls := "java/lang/RuntimeException", name := "<init>", desc := "()V" } : Jvm.MethodName)) ∈ lw_all := lw_g (lw_at lw_m2 183 rfl) rfl

/-! java/lang/IllegalArgumentException -/
set_option maxRecDepth 100000
def RJ19 : String := "java/lang/IllegalArgumentException"
def TJ19 : u_T := fun k => match k with
  | 0 => ("java/lang/Throwable", "cause", "Ljava/lang/Throwable;", false)
  | 1 => ("java/lang/Throwable", "stackTrace", "[Ljava/lang/StackTraceElement;", false)
  | 2 => ("java/lang/Throwable", "suppressedExceptions", "Ljava/util/List;", false)
  | 3 => ("java/lang/Throwable", "detailMessage", "Ljava/lang/String;", false)
  | 4 => ("java/lang/Throwable", "backtrace", "Ljava/lang/Object;", false)
  | _ => ("java/lang/Throwable", "depth", "I", false)
def tyJ19 : Nat → FieldType := fun k => match k with
  | 0 => .object "java/lang/Throwable"
  | 1 => .array (.object "java/lang/StackTraceElement")
  | 2 => .object "java/util/List"
  | 3 => .object "java/lang/String"
  | 4 => .object "java/lang/Object"
  | _ => .int
abbrev wsJ190 : List Cond := u_ws RJ19 TJ19 6
theorem nmJ19 : ∀ a, a < 6 → ∀ b, b < 6 → a ≠ b → (TJ19 a).2.1 ≠ (TJ19 b).2.1 := by decide +kernel
theorem tyJ19_ok : ∀ k, k < 6 → parseFieldDescriptor (TJ19 k).2.2.1 = some (tyJ19 k) := by decide +kernel
abbrev cJ19_init : ByteArray := prog_15_method_1_code
def yJ19_init : MethodName := ⟨RJ19, "<init>", "()V"⟩
theorem dJ19_init_0 : decode cJ19_init 0 = .ok (.aload_n 0, 1) := by decide +kernel
theorem dJ19_init_1 : decode cJ19_init 1 = .ok (.invokespecial 1, 3) := by decide +kernel
theorem dJ19_init_4 : decode cJ19_init 4 = .ok (.return_, 1) := by decide +kernel
theorem q40 : (Jvm.Cond.initialized "java/lang/IllegalArgumentException") ∈ lw_all := lw_g (lw_at lw_m1 29 rfl) rfl
theorem q122 : (Jvm.Cond.selects "java/lang/IllegalArgumentException" ({ cls := "java/lang/Object", name := "getClass", desc := "()Ljava/lang/Class;" } : Jvm.MethodName) ({ cls := "java/lang/Object", name := "getClass", desc := "()Ljava/lang/Class;" } : Jvm.MethodName)) ∈ lw_all := lw_g (lw_at lw_m1 111 rfl) rfl
theorem q319 : (Jvm.Cond.selects "java/lang/IllegalArgumentException" ({ cls := "java/lang/Throwable", name := "fillInStackTrace", desc := "()Ljava/lang/Throwable;" } : Jvm.MethodName) ({ cls := "java/lang/Throwable", name := "fillInStackTrace", desc := "()Ljava/lang/Throwable;" } : Jvm.MethodName)) ∈ lw_all := lw_g (lw_at lw_m2 68 rfl) rfl
theorem q445 : (Jvm.Cond.instantiable "java/lang/IllegalArgumentException" (6 : Nat)) ∈ lw_all := lw_g (lw_at lw_m2 194 rfl) rfl
theorem q446 : (Jvm.Cond.castable "java/lang/IllegalArgumentException" "java/lang/IllegalArgumentException") ∈ lw_tbl := lw_at lw_m2 195 rfl
theorem q447 : (Jvm.Cond.selects "java/lang/IllegalArgumentException" ({ cls := "java/lang/Throwable", name := "fillInStackTrace", desc := "(I)Ljava/lang/Throwable;" } : Jvm.MethodName) ({ cls := "java/lang/Throwable", name := "fillInStackTrace", desc := "(I)Ljava/lang/Throwable;" } : Jvm.MethodName)) ∈ lw_all := lw_g (lw_at lw_m2 196 rfl) rfl
theorem q448 : (Jvm.Cond.lays "java/lang/IllegalArgumentException" "java/lang/Throwable" "cause" "Ljava/lang/Throwable;") ∈ lw_all := lw_g (lw_at lw_m2 197 rfl) rfl
theorem q449 : (Jvm.Cond.lays "java/lang/IllegalArgumentException" "java/lang/Throwable" "stackTrace" "[Ljava/lang/StackTraceElement;") ∈ lw_all := lw_g (lw_at lw_m2 198 rfl) rfl
theorem q450 : (Jvm.Cond.lays "java/lang/IllegalArgumentException" "java/lang/Throwable" "suppressedExceptions" "Ljava/util/List;") ∈ lw_all := lw_g (lw_at lw_m2 199 rfl) rfl
theorem q451 : (Jvm.Cond.lays "java/lang/IllegalArgumentException" "java/lang/Throwable" "detailMessage" "Ljava/lang/String;") ∈ lw_all := lw_g (lw_at lw_m2 200 rfl) rfl
theorem q452 : (Jvm.Cond.lays "java/lang/IllegalArgumentException" "java/lang/Throwable" "backtrace" "Ljava/lang/Object;") ∈ lw_all := lw_g (lw_at lw_m2 201 rfl) rfl
theorem q454 : (Jvm.Cond.instanceMethod ({ cls := "java/lang/IllegalArgumentException", name := "<init>", desc := "()V" } : Jvm.MethodName)) ∈ lw_all := lw_g (lw_at lw_m2 203 rfl) rfl
theorem q455 : (Jvm.Cond.code ({ cls := "java/lang/IllegalArgumentException", name := "<init>", desc := "()V" } : Jvm.MethodName) prog_15_method_1_code (1 : Nat) (Option.none : Option Jvm.ClassFile.FieldType)) ∈ lw_all := lw_g (lw_at lw_m2 204 rfl) rfl
theorem q456 : (Jvm.Cond.methodLink "java/lang/IllegalArgumentException" (1 : Nat) ({ cls := "java/lang/RuntimeException", name := "<init>", desc := "()V" } : Jvm.MethodName)) ∈ lw_all := lw_g (lw_at lw_m2 205 rfl) rfl
theorem q457 : (Jvm.Cond.lays "java/lang/IllegalArgumentException" "java/lang/Throwable" "depth" "I") ∈ lw_all := lw_g (lw_at lw_m2 206 rfl) rfl
theorem q458 : (Jvm.Cond.superclass "java/lang/IllegalArgumentException" "java/lang/RuntimeException") ∈ lw_all := lw_g (lw_at lw_m2 207 rfl) rfl
theorem q671 : (Jvm.Cond.castable "java/lang/IllegalArgumentException" "java/lang/Object") ∈ lw_tbl := lw_at lw_m3 180 rfl
theorem in_J19 : ∀ w ∈ wsJ190, w ∈ lw_all := lw_in wsJ190 [448, 449, 450, 451, 452, 457] (by decide +kernel) (by decide +kernel)

/-! java/lang/UnsupportedOperationException -/
set_option maxRecDepth 100000
def RJ20 : String := "java/lang/UnsupportedOperationException"
def TJ20 : u_T := fun k => match k with
  | 0 => ("java/lang/Throwable", "cause", "Ljava/lang/Throwable;", false)
  | 1 => ("java/lang/Throwable", "stackTrace", "[Ljava/lang/StackTraceElement;", false)
  | 2 => ("java/lang/Throwable", "suppressedExceptions", "Ljava/util/List;", false)
  | 3 => ("java/lang/Throwable", "detailMessage", "Ljava/lang/String;", false)
  | 4 => ("java/lang/Throwable", "backtrace", "Ljava/lang/Object;", false)
  | _ => ("java/lang/Throwable", "depth", "I", false)
def tyJ20 : Nat → FieldType := fun k => match k with
  | 0 => .object "java/lang/Throwable"
  | 1 => .array (.object "java/lang/StackTraceElement")
  | 2 => .object "java/util/List"
  | 3 => .object "java/lang/String"
  | 4 => .object "java/lang/Object"
  | _ => .int
abbrev wsJ200 : List Cond := u_ws RJ20 TJ20 6
theorem nmJ20 : ∀ a, a < 6 → ∀ b, b < 6 → a ≠ b → (TJ20 a).2.1 ≠ (TJ20 b).2.1 := by decide +kernel
theorem tyJ20_ok : ∀ k, k < 6 → parseFieldDescriptor (TJ20 k).2.2.1 = some (tyJ20 k) := by decide +kernel
abbrev cJ20_init : ByteArray := prog_28_method_1_code
def yJ20_init : MethodName := ⟨RJ20, "<init>", "()V"⟩
theorem dJ20_init_0 : decode cJ20_init 0 = .ok (.aload_n 0, 1) := by decide +kernel
theorem dJ20_init_1 : decode cJ20_init 1 = .ok (.invokespecial 1, 3) := by decide +kernel
theorem dJ20_init_4 : decode cJ20_init 4 = .ok (.return_, 1) := by decide +kernel
theorem q41 : (Jvm.Cond.initialized "java/lang/UnsupportedOperationException") ∈ lw_all := lw_g (lw_at lw_m1 30 rfl) rfl
theorem q125 : (Jvm.Cond.selects "java/lang/UnsupportedOperationException" ({ cls := "java/lang/Object", name := "getClass", desc := "()Ljava/lang/Class;" } : Jvm.MethodName) ({ cls := "java/lang/Object", name := "getClass", desc := "()Ljava/lang/Class;" } : Jvm.MethodName)) ∈ lw_all := lw_g (lw_at lw_m1 114 rfl) rfl
theorem q321 : (Jvm.Cond.selects "java/lang/UnsupportedOperationException" ({ cls := "java/lang/Throwable", name := "fillInStackTrace", desc := "()Ljava/lang/Throwable;" } : Jvm.MethodName) ({ cls := "java/lang/Throwable", name := "fillInStackTrace", desc := "()Ljava/lang/Throwable;" } : Jvm.MethodName)) ∈ lw_all := lw_g (lw_at lw_m2 70 rfl) rfl
theorem q460 : (Jvm.Cond.instantiable "java/lang/UnsupportedOperationException" (6 : Nat)) ∈ lw_all := lw_g (lw_at lw_m2 209 rfl) rfl
theorem q461 : (Jvm.Cond.castable "java/lang/UnsupportedOperationException" "java/lang/UnsupportedOperationException") ∈ lw_tbl := lw_at lw_m2 210 rfl
theorem q462 : (Jvm.Cond.selects "java/lang/UnsupportedOperationException" ({ cls := "java/lang/Throwable", name := "fillInStackTrace", desc := "(I)Ljava/lang/Throwable;" } : Jvm.MethodName) ({ cls := "java/lang/Throwable", name := "fillInStackTrace", desc := "(I)Ljava/lang/Throwable;" } : Jvm.MethodName)) ∈ lw_all := lw_g (lw_at lw_m2 211 rfl) rfl
theorem q463 : (Jvm.Cond.lays "java/lang/UnsupportedOperationException" "java/lang/Throwable" "cause" "Ljava/lang/Throwable;") ∈ lw_all := lw_g (lw_at lw_m2 212 rfl) rfl
theorem q464 : (Jvm.Cond.lays "java/lang/UnsupportedOperationException" "java/lang/Throwable" "stackTrace" "[Ljava/lang/StackTraceElement;") ∈ lw_all := lw_g (lw_at lw_m2 213 rfl) rfl
theorem q465 : (Jvm.Cond.lays "java/lang/UnsupportedOperationException" "java/lang/Throwable" "suppressedExceptions" "Ljava/util/List;") ∈ lw_all := lw_g (lw_at lw_m2 214 rfl) rfl
theorem q466 : (Jvm.Cond.lays "java/lang/UnsupportedOperationException" "java/lang/Throwable" "detailMessage" "Ljava/lang/String;") ∈ lw_all := lw_g (lw_at lw_m2 215 rfl) rfl
theorem q467 : (Jvm.Cond.lays "java/lang/UnsupportedOperationException" "java/lang/Throwable" "backtrace" "Ljava/lang/Object;") ∈ lw_all := lw_g (lw_at lw_m2 216 rfl) rfl
theorem q469 : (Jvm.Cond.instanceMethod ({ cls := "java/lang/UnsupportedOperationException", name := "<init>", desc := "()V" } : Jvm.MethodName)) ∈ lw_all := lw_g (lw_at lw_m2 218 rfl) rfl
theorem q470 : (Jvm.Cond.code ({ cls := "java/lang/UnsupportedOperationException", name := "<init>", desc := "()V" } : Jvm.MethodName) prog_28_method_1_code (1 : Nat) (Option.none : Option Jvm.ClassFile.FieldType)) ∈ lw_all := lw_g (lw_at lw_m2 219 rfl) rfl
theorem q471 : (Jvm.Cond.methodLink "java/lang/UnsupportedOperationException" (1 : Nat) ({ cls := "java/lang/RuntimeException", name := "<init>", desc := "()V" } : Jvm.MethodName)) ∈ lw_all := lw_g (lw_at lw_m2 220 rfl) rfl
theorem q472 : (Jvm.Cond.lays "java/lang/UnsupportedOperationException" "java/lang/Throwable" "depth" "I") ∈ lw_all := lw_g (lw_at lw_m2 221 rfl) rfl
theorem q473 : (Jvm.Cond.superclass "java/lang/UnsupportedOperationException" "java/lang/RuntimeException") ∈ lw_all := lw_g (lw_at lw_m2 222 rfl) rfl
theorem q672 : (Jvm.Cond.castable "java/lang/UnsupportedOperationException" "java/lang/Object") ∈ lw_tbl := lw_at lw_m3 181 rfl
theorem in_J20 : ∀ w ∈ wsJ200, w ∈ lw_all := lw_in wsJ200 [463, 464, 465, 466, 467, 472] (by decide +kernel) (by decide +kernel)

/-! MainframeDesk$Part$Stuck -/
set_option maxRecDepth 100000
def RX4 : String := "MainframeDesk$Part$Stuck"
def TX4 : u_T := fun k => match k with
  | 0 => ("java/lang/Throwable", "cause", "Ljava/lang/Throwable;", false)
  | 1 => ("java/lang/Throwable", "stackTrace", "[Ljava/lang/StackTraceElement;", false)
  | 2 => ("java/lang/Throwable", "suppressedExceptions", "Ljava/util/List;", false)
  | 3 => ("java/lang/Throwable", "detailMessage", "Ljava/lang/String;", false)
  | 4 => ("java/lang/Throwable", "backtrace", "Ljava/lang/Object;", false)
  | _ => ("java/lang/Throwable", "depth", "I", false)
def tyX4 : Nat → FieldType := fun k => match k with
  | 0 => .object "java/lang/Throwable"
  | 1 => .array (.object "java/lang/StackTraceElement")
  | 2 => .object "java/util/List"
  | 3 => .object "java/lang/String"
  | 4 => .object "java/lang/Object"
  | _ => .int
abbrev wsX40 : List Cond := u_ws RX4 TX4 6
theorem nmX4 : ∀ a, a < 6 → ∀ b, b < 6 → a ≠ b → (TX4 a).2.1 ≠ (TX4 b).2.1 := by decide +kernel
theorem tyX4_ok : ∀ k, k < 6 → parseFieldDescriptor (TX4 k).2.2.1 = some (tyX4 k) := by decide +kernel
abbrev cX4_init : ByteArray := prog_3_method_1_code
def yX4_init : MethodName := ⟨RX4, "<init>", "()V"⟩
theorem dX4_init_0 : decode cX4_init 0 = .ok (.aload_n 0, 1) := by decide +kernel
theorem dX4_init_1 : decode cX4_init 1 = .ok (.invokespecial 1, 3) := by decide +kernel
theorem dX4_init_4 : decode cX4_init 4 = .ok (.return_, 1) := by decide +kernel
theorem q39 : (Jvm.Cond.initialized "MainframeDesk$Part$Stuck") ∈ lw_all := lw_g (lw_at lw_m1 28 rfl) rfl
theorem q116 : (Jvm.Cond.selects "MainframeDesk$Part$Stuck" ({ cls := "java/lang/Object", name := "getClass", desc := "()Ljava/lang/Class;" } : Jvm.MethodName) ({ cls := "java/lang/Object", name := "getClass", desc := "()Ljava/lang/Class;" } : Jvm.MethodName)) ∈ lw_all := lw_g (lw_at lw_m1 105 rfl) rfl
theorem q316 : (Jvm.Cond.selects "MainframeDesk$Part$Stuck" ({ cls := "java/lang/Throwable", name := "fillInStackTrace", desc := "()Ljava/lang/Throwable;" } : Jvm.MethodName) ({ cls := "java/lang/Throwable", name := "fillInStackTrace", desc := "()Ljava/lang/Throwable;" } : Jvm.MethodName)) ∈ lw_all := lw_g (lw_at lw_m2 65 rfl) rfl
theorem q418 : (Jvm.Cond.instantiable "MainframeDesk$Part$Stuck" (6 : Nat)) ∈ lw_all := lw_g (lw_at lw_m2 167 rfl) rfl
theorem q419 : (Jvm.Cond.castable "MainframeDesk$Part$Stuck" "MainframeDesk$Part$Stuck") ∈ lw_tbl := lw_at lw_m2 168 rfl
theorem q422 : (Jvm.Cond.selects "MainframeDesk$Part$Stuck" ({ cls := "java/lang/Throwable", name := "fillInStackTrace", desc := "(I)Ljava/lang/Throwable;" } : Jvm.MethodName) ({ cls := "java/lang/Throwable", name := "fillInStackTrace", desc := "(I)Ljava/lang/Throwable;" } : Jvm.MethodName)) ∈ lw_all := lw_g (lw_at lw_m2 171 rfl) rfl
theorem q423 : (Jvm.Cond.lays "MainframeDesk$Part$Stuck" "java/lang/Throwable" "cause" "Ljava/lang/Throwable;") ∈ lw_all := lw_g (lw_at lw_m2 172 rfl) rfl
theorem q424 : (Jvm.Cond.lays "MainframeDesk$Part$Stuck" "java/lang/Throwable" "stackTrace" "[Ljava/lang/StackTraceElement;") ∈ lw_all := lw_g (lw_at lw_m2 173 rfl) rfl
theorem q425 : (Jvm.Cond.lays "MainframeDesk$Part$Stuck" "java/lang/Throwable" "suppressedExceptions" "Ljava/util/List;") ∈ lw_all := lw_g (lw_at lw_m2 174 rfl) rfl
theorem q426 : (Jvm.Cond.lays "MainframeDesk$Part$Stuck" "java/lang/Throwable" "detailMessage" "Ljava/lang/String;") ∈ lw_all := lw_g (lw_at lw_m2 175 rfl) rfl
theorem q427 : (Jvm.Cond.lays "MainframeDesk$Part$Stuck" "java/lang/Throwable" "backtrace" "Ljava/lang/Object;") ∈ lw_all := lw_g (lw_at lw_m2 176 rfl) rfl
theorem q429 : (Jvm.Cond.instanceMethod ({ cls := "MainframeDesk$Part$Stuck", name := "<init>", desc := "()V" } : Jvm.MethodName)) ∈ lw_all := lw_g (lw_at lw_m2 178 rfl) rfl
theorem q430 : (Jvm.Cond.code ({ cls := "MainframeDesk$Part$Stuck", name := "<init>", desc := "()V" } : Jvm.MethodName) prog_3_method_1_code (1 : Nat) (Option.none : Option Jvm.ClassFile.FieldType)) ∈ lw_all := lw_g (lw_at lw_m2 179 rfl) rfl
theorem q431 : (Jvm.Cond.methodLink "MainframeDesk$Part$Stuck" (1 : Nat) ({ cls := "java/lang/IllegalStateException", name := "<init>", desc := "()V" } : Jvm.MethodName)) ∈ lw_all := lw_g (lw_at lw_m2 180 rfl) rfl
theorem q441 : (Jvm.Cond.lays "MainframeDesk$Part$Stuck" "java/lang/Throwable" "depth" "I") ∈ lw_all := lw_g (lw_at lw_m2 190 rfl) rfl
theorem q442 : (Jvm.Cond.superclass "MainframeDesk$Part$Stuck" "java/lang/IllegalStateException") ∈ lw_all := lw_g (lw_at lw_m2 191 rfl) rfl
theorem q659 : (Jvm.Cond.castable "MainframeDesk$Part$Stuck" "java/lang/IllegalStateException") ∈ lw_tbl := lw_at lw_m3 168 rfl
theorem q670 : (Jvm.Cond.castable "MainframeDesk$Part$Stuck" "java/lang/Object") ∈ lw_tbl := lw_at lw_m3 179 rfl
theorem in_X4 : ∀ w ∈ wsX40, w ∈ lw_all := lw_in wsX40 [423, 424, 425, 426, 427, 441] (by decide +kernel) (by decide +kernel)
end
section
/-! MainframeDesk$Part -/
set_option maxRecDepth 100000
def RX1 : String := "MainframeDesk$Part"
def TX1 : u_T := fun k => match k with
  | 0 => ("MainframeDesk$Part", "answer", "J", false)
  | _ => ("MainframeDesk$Part", "failure", "I", false)
def tyX1 : Nat → FieldType := fun k => match k with
  | 0 => .long
  | _ => .int
abbrev wsX10 : List Cond := u_ws RX1 TX1 2
theorem nmX1 : ∀ a, a < 2 → ∀ b, b < 2 → a ≠ b → (TX1 a).2.1 ≠ (TX1 b).2.1 := by decide +kernel
theorem tyX1_ok : ∀ k, k < 2 → parseFieldDescriptor (TX1 k).2.2.1 = some (tyX1 k) := by decide +kernel
abbrev cX1_init : ByteArray := prog_2_method_1_code
def yX1_init : MethodName := ⟨RX1, "<init>", "()V"⟩
theorem dX1_init_0 : decode cX1_init 0 = .ok (.aload_n 0, 1) := by decide +kernel
theorem dX1_init_1 : decode cX1_init 1 = .ok (.invokespecial 3, 3) := by decide +kernel
theorem dX1_init_4 : decode cX1_init 4 = .ok (.return_, 1) := by decide +kernel
abbrev cX1_done : ByteArray := prog_2_method_3_code
def yX1_done : MethodName := ⟨RX1, "done", "(LMainframeDesk$Thing;JLjava/util/ArrayList;)J"⟩
theorem dX1_done_0 : decode cX1_done 0 = .ok (.aload_n 0, 1) := by decide +kernel
theorem dX1_done_1 : decode cX1_done 1 = .ok (.invokevirtual 24, 3) := by decide +kernel
theorem dX1_done_4 : decode cX1_done 4 = .ok (.aload_n 0, 1) := by decide +kernel
theorem dX1_done_5 : decode cX1_done 5 = .ok (.getfield 27, 3) := by decide +kernel
theorem dX1_done_8 : decode cX1_done 8 = .ok (.lload_n 2, 1) := by decide +kernel
theorem dX1_done_9 : decode cX1_done 9 = .ok (.ladd, 1) := by decide +kernel
theorem dX1_done_10 : decode cX1_done 10 = .ok (.lstore 5, 2) := by decide +kernel
theorem dX1_done_12 : decode cX1_done 12 = .ok (.aload 4, 2) := by decide +kernel
theorem dX1_done_14 : decode cX1_done 14 = .ok (.invokevirtual 31, 3) := by decide +kernel
theorem dX1_done_17 : decode cX1_done 17 = .ok (.astore 7, 2) := by decide +kernel
theorem dX1_done_19 : decode cX1_done 19 = .ok (.aload 7, 2) := by decide +kernel
theorem dX1_done_21 : decode cX1_done 21 = .ok (.invokeinterface 37 1, 5) := by decide +kernel
theorem dX1_done_26 : decode cX1_done 26 = .ok (.ifCond .eq 28, 3) := by decide +kernel
theorem dX1_done_29 : decode cX1_done 29 = .ok (.aload 7, 2) := by decide +kernel
theorem dX1_done_31 : decode cX1_done 31 = .ok (.invokeinterface 43 1, 5) := by decide +kernel
theorem dX1_done_36 : decode cX1_done 36 = .ok (.checkcast 47, 3) := by decide +kernel
theorem dX1_done_39 : decode cX1_done 39 = .ok (.invokevirtual 49, 3) := by decide +kernel
theorem dX1_done_42 : decode cX1_done 42 = .ok (.lstore 8, 2) := by decide +kernel
theorem dX1_done_44 : decode cX1_done 44 = .ok (.lload 5, 2) := by decide +kernel
theorem dX1_done_46 : decode cX1_done 46 = .ok (.lload 8, 2) := by decide +kernel
theorem dX1_done_48 : decode cX1_done 48 = .ok (.ladd, 1) := by decide +kernel
theorem dX1_done_49 : decode cX1_done 49 = .ok (.lstore 5, 2) := by decide +kernel
theorem dX1_done_51 : decode cX1_done 51 = .ok (.goto (-32), 3) := by decide +kernel
theorem dX1_done_54 : decode cX1_done 54 = .ok (.aload_n 1, 1) := by decide +kernel
theorem dX1_done_55 : decode cX1_done 55 = .ok (.getfield 53, 3) := by decide +kernel
theorem dX1_done_58 : decode cX1_done 58 = .ok (.iconst 3, 1) := by decide +kernel
theorem dX1_done_59 : decode cX1_done 59 = .ok (.if_icmp .ne 14, 3) := by decide +kernel
theorem dX1_done_62 : decode cX1_done 62 = .ok (.lload 5, 2) := by decide +kernel
theorem dX1_done_64 : decode cX1_done 64 = .ok (.aload_n 1, 1) := by decide +kernel
theorem dX1_done_65 : decode cX1_done 65 = .ok (.getfield 58, 3) := by decide +kernel
theorem dX1_done_68 : decode cX1_done 68 = .ok (.i2l, 1) := by decide +kernel
theorem dX1_done_69 : decode cX1_done 69 = .ok (.ladd, 1) := by decide +kernel
theorem dX1_done_70 : decode cX1_done 70 = .ok (.goto 5, 3) := by decide +kernel
theorem dX1_done_73 : decode cX1_done 73 = .ok (.lload 5, 2) := by decide +kernel
theorem dX1_done_75 : decode cX1_done 75 = .ok (.lreturn, 1) := by decide +kernel
abbrev cX1_fail : ByteArray := prog_2_method_2_code
def yX1_fail : MethodName := ⟨RX1, "fail", "()V"⟩
theorem dX1_fail_0 : decode cX1_fail 0 = .ok (.iconst 1, 1) := by decide +kernel
theorem dX1_fail_1 : decode cX1_fail 1 = .ok (.newarray .int, 2) := by decide +kernel
theorem dX1_fail_3 : decode cX1_fail 3 = .ok (.astore_n 1, 1) := by decide +kernel
theorem dX1_fail_4 : decode cX1_fail 4 = .ok (.aload_n 0, 1) := by decide +kernel
theorem dX1_fail_5 : decode cX1_fail 5 = .ok (.getfield 9, 3) := by decide +kernel
theorem dX1_fail_8 : decode cX1_fail 8 = .ok (.tableswitch 97 1 6 #[40, 51, 61, 73, 81, 89], 40) := by decide +kernel
theorem dX1_fail_48 : decode cX1_fail 48 = .ok (.aload_n 1, 1) := by decide +kernel
theorem dX1_fail_49 : decode cX1_fail 49 = .ok (.iconst 0, 1) := by decide +kernel
theorem dX1_fail_50 : decode cX1_fail 50 = .ok (.iconst 1, 1) := by decide +kernel
theorem dX1_fail_51 : decode cX1_fail 51 = .ok (.aload_n 1, 1) := by decide +kernel
theorem dX1_fail_52 : decode cX1_fail 52 = .ok (.iconst 0, 1) := by decide +kernel
theorem dX1_fail_53 : decode cX1_fail 53 = .ok (.iaload, 1) := by decide +kernel
theorem dX1_fail_54 : decode cX1_fail 54 = .ok (.idiv, 1) := by decide +kernel
theorem dX1_fail_55 : decode cX1_fail 55 = .ok (.iastore, 1) := by decide +kernel
theorem dX1_fail_56 : decode cX1_fail 56 = .ok (.goto 49, 3) := by decide +kernel
theorem dX1_fail_59 : decode cX1_fail 59 = .ok (.aload_n 1, 1) := by decide +kernel
theorem dX1_fail_60 : decode cX1_fail 60 = .ok (.aload_n 0, 1) := by decide +kernel
theorem dX1_fail_61 : decode cX1_fail 61 = .ok (.getfield 9, 3) := by decide +kernel
theorem dX1_fail_64 : decode cX1_fail 64 = .ok (.iconst 1, 1) := by decide +kernel
theorem dX1_fail_65 : decode cX1_fail 65 = .ok (.iastore, 1) := by decide +kernel
theorem dX1_fail_66 : decode cX1_fail 66 = .ok (.goto 39, 3) := by decide +kernel
theorem dX1_fail_69 : decode cX1_fail 69 = .ok (.iconst 0, 1) := by decide +kernel
theorem dX1_fail_70 : decode cX1_fail 70 = .ok (.aload_n 0, 1) := by decide +kernel
theorem dX1_fail_71 : decode cX1_fail 71 = .ok (.getfield 9, 3) := by decide +kernel
theorem dX1_fail_74 : decode cX1_fail 74 = .ok (.isub, 1) := by decide +kernel
theorem dX1_fail_75 : decode cX1_fail 75 = .ok (.newarray .int, 2) := by decide +kernel
theorem dX1_fail_77 : decode cX1_fail 77 = .ok (.astore_n 1, 1) := by decide +kernel
theorem dX1_fail_78 : decode cX1_fail 78 = .ok (.goto 27, 3) := by decide +kernel
theorem dX1_fail_81 : decode cX1_fail 81 = .ok (.new 15, 3) := by decide +kernel
theorem dX1_fail_84 : decode cX1_fail 84 = .ok (.dup, 1) := by decide +kernel
theorem dX1_fail_85 : decode cX1_fail 85 = .ok (.invokespecial 17, 3) := by decide +kernel
theorem dX1_fail_88 : decode cX1_fail 88 = .ok (.athrow, 1) := by decide +kernel
theorem dX1_fail_89 : decode cX1_fail 89 = .ok (.new 18, 3) := by decide +kernel
theorem dX1_fail_92 : decode cX1_fail 92 = .ok (.dup, 1) := by decide +kernel
theorem dX1_fail_93 : decode cX1_fail 93 = .ok (.invokespecial 20, 3) := by decide +kernel
theorem dX1_fail_96 : decode cX1_fail 96 = .ok (.athrow, 1) := by decide +kernel
theorem dX1_fail_97 : decode cX1_fail 97 = .ok (.new 21, 3) := by decide +kernel
theorem dX1_fail_100 : decode cX1_fail 100 = .ok (.dup, 1) := by decide +kernel
theorem dX1_fail_101 : decode cX1_fail 101 = .ok (.invokespecial 23, 3) := by decide +kernel
theorem dX1_fail_104 : decode cX1_fail 104 = .ok (.athrow, 1) := by decide +kernel
theorem dX1_fail_105 : decode cX1_fail 105 = .ok (.return_, 1) := by decide +kernel
theorem q20 : (Jvm.Cond.initialized "MainframeDesk$Part") ∈ lw_all := lw_g (lw_at lw_m1 9 rfl) rfl
theorem q115 : (Jvm.Cond.selects "MainframeDesk$Part" ({ cls := "java/lang/Object", name := "getClass", desc := "()Ljava/lang/Class;" } : Jvm.MethodName) ({ cls := "java/lang/Object", name := "getClass", desc := "()Ljava/lang/Class;" } : Jvm.MethodName)) ∈ lw_all := lw_g (lw_at lw_m1 104 rfl) rfl
theorem q143 : (Jvm.Cond.instantiable "MainframeDesk$Part" (2 : Nat)) ∈ lw_all := lw_g (lw_at lw_m1 132 rfl) rfl
theorem q145 : (Jvm.Cond.instanceMethod ({ cls := "MainframeDesk$Part", name := "<init>", desc := "()V" } : Jvm.MethodName)) ∈ lw_all := lw_g (lw_at lw_m1 134 rfl) rfl
theorem q146 : (Jvm.Cond.code ({ cls := "MainframeDesk$Part", name := "<init>", desc := "()V" } : Jvm.MethodName) prog_2_method_1_code (1 : Nat) (Option.none : Option Jvm.ClassFile.FieldType)) ∈ lw_all := lw_g (lw_at lw_m1 135 rfl) rfl
theorem q147 : (Jvm.Cond.methodLink "MainframeDesk$Part" (3 : Nat) ({ cls := "java/lang/Object", name := "<init>", desc := "()V" } : Jvm.MethodName)) ∈ lw_all := lw_g (lw_at lw_m1 136 rfl) rfl
theorem q148 : (Jvm.Cond.fieldLink "MainframeDesk$Part" (27 : Nat) "MainframeDesk$Part" "answer" "J") ∈ lw_all := lw_g (lw_at lw_m1 137 rfl) rfl
theorem q150 : (Jvm.Cond.fieldLink "MainframeDesk$Part" (9 : Nat) "MainframeDesk$Part" "failure" "I") ∈ lw_all := lw_g (lw_at lw_m1 139 rfl) rfl
theorem q152 : (Jvm.Cond.lays "MainframeDesk$Part" "MainframeDesk$Part" "answer" "J") ∈ lw_all := lw_g (lw_at lw_m1 141 rfl) rfl
theorem q153 : (Jvm.Cond.soleField "MainframeDesk$Part" "answer") ∈ lw_all := lw_g (lw_at lw_m1 142 rfl) rfl
theorem q154 : (Jvm.Cond.lays "MainframeDesk$Part" "MainframeDesk$Part" "failure" "I") ∈ lw_all := lw_g (lw_at lw_m1 143 rfl) rfl
theorem q155 : (Jvm.Cond.soleField "MainframeDesk$Part" "failure") ∈ lw_all := lw_g (lw_at lw_m1 144 rfl) rfl
theorem q156 : (Jvm.Cond.superclass "MainframeDesk$Part" "java/lang/Object") ∈ lw_all := lw_g (lw_at lw_m1 145 rfl) rfl
theorem q251 : (Jvm.Cond.fieldLinkNest "MainframeDesk$Part" (53 : Nat) "MainframeDesk$Thing" "kind" "I" "MainframeDesk") ∈ lw_tbl := lw_at lw_m2 0 rfl
theorem q255 : (Jvm.Cond.fieldLinkNest "MainframeDesk$Part" (58 : Nat) "MainframeDesk$Thing" "calls" "I" "MainframeDesk") ∈ lw_tbl := lw_at lw_m2 4 rfl
theorem q410 : (Jvm.Cond.instanceMethod ({ cls := "MainframeDesk$Part", name := "done", desc := "(LMainframeDesk$Thing;JLjava/util/ArrayList;)J" } : Jvm.MethodName)) ∈ lw_all := lw_g (lw_at lw_m2 159 rfl) rfl
theorem q411 : (Jvm.Cond.selects "MainframeDesk$Part" ({ cls := "MainframeDesk$Part", name := "done", desc := "(LMainframeDesk$Thing;JLjava/util/ArrayList;)J" } : Jvm.MethodName) ({ cls := "MainframeDesk$Part", name := "done", desc := "(LMainframeDesk$Thing;JLjava/util/ArrayList;)J" } : Jvm.MethodName)) ∈ lw_all := lw_g (lw_at lw_m2 160 rfl) rfl
theorem q412 : (Jvm.Cond.code ({ cls := "MainframeDesk$Part", name := "done", desc := "(LMainframeDesk$Thing;JLjava/util/ArrayList;)J" } : Jvm.MethodName) prog_2_method_3_code (10 : Nat) (Option.some Jvm.ClassFile.FieldType.long)) ∈ lw_all := lw_g (lw_at lw_m2 161 rfl) rfl
theorem q413 : (Jvm.Cond.methodLink "MainframeDesk$Part" (24 : Nat) ({ cls := "MainframeDesk$Part", name := "fail", desc := "()V" } : Jvm.MethodName)) ∈ lw_all := lw_g (lw_at lw_m2 162 rfl) rfl
theorem q414 : (Jvm.Cond.privateMethod ({ cls := "MainframeDesk$Part", name := "fail", desc := "()V" } : Jvm.MethodName)) ∈ lw_tbl := lw_at lw_m2 163 rfl
theorem q415 : (Jvm.Cond.instanceMethod ({ cls := "MainframeDesk$Part", name := "fail", desc := "()V" } : Jvm.MethodName)) ∈ lw_all := lw_g (lw_at lw_m2 164 rfl) rfl
theorem q416 : (Jvm.Cond.code ({ cls := "MainframeDesk$Part", name := "fail", desc := "()V" } : Jvm.MethodName) prog_2_method_2_code (2 : Nat) (Option.none : Option Jvm.ClassFile.FieldType)) ∈ lw_all := lw_g (lw_at lw_m2 165 rfl) rfl
theorem q417 : (Jvm.Cond.classLink "MainframeDesk$Part" (15 : Nat) "MainframeDesk$Part$Stuck") ∈ lw_all := lw_g (lw_at lw_m2 166 rfl) rfl
theorem q428 : (Jvm.Cond.methodLinkNest "MainframeDesk$Part" (17 : Nat) ({ cls := "MainframeDesk$Part$Stuck", name := "<init>", desc := "()V" } : Jvm.MethodName) "MainframeDesk") ∈ lw_tbl := lw_at lw_m2 177 rfl
theorem q444 : (Jvm.Cond.classLink "MainframeDesk$Part" (18 : Nat) "java/lang/IllegalArgumentException") ∈ lw_all := lw_g (lw_at lw_m2 193 rfl) rfl
theorem q453 : (Jvm.Cond.methodLink "MainframeDesk$Part" (20 : Nat) ({ cls := "java/lang/IllegalArgumentException", name := "<init>", desc := "()V" } : Jvm.MethodName)) ∈ lw_all := lw_g (lw_at lw_m2 202 rfl) rfl
theorem q459 : (Jvm.Cond.classLink "MainframeDesk$Part" (21 : Nat) "java/lang/UnsupportedOperationException") ∈ lw_all := lw_g (lw_at lw_m2 208 rfl) rfl
theorem q468 : (Jvm.Cond.methodLink "MainframeDesk$Part" (23 : Nat) ({ cls := "java/lang/UnsupportedOperationException", name := "<init>", desc := "()V" } : Jvm.MethodName)) ∈ lw_all := lw_g (lw_at lw_m2 217 rfl) rfl
theorem q474 : (Jvm.Cond.methodLink "MainframeDesk$Part" (31 : Nat) ({ cls := "java/util/ArrayList", name := "iterator", desc := "()Ljava/util/Iterator;" } : Jvm.MethodName)) ∈ lw_all := lw_g (lw_at lw_m2 223 rfl) rfl
theorem q497 : (Jvm.Cond.interfaceEntry "MainframeDesk$Part" (37 : Nat)) ∈ lw_tbl := lw_at lw_m3 6 rfl
theorem q498 : (Jvm.Cond.methodLink "MainframeDesk$Part" (37 : Nat) ({ cls := "java/util/Iterator", name := "hasNext", desc := "()Z" } : Jvm.MethodName)) ∈ lw_all := lw_g (lw_at lw_m3 7 rfl) rfl
theorem q507 : (Jvm.Cond.interfaceEntry "MainframeDesk$Part" (43 : Nat)) ∈ lw_tbl := lw_at lw_m3 16 rfl
theorem q508 : (Jvm.Cond.methodLink "MainframeDesk$Part" (43 : Nat) ({ cls := "java/util/Iterator", name := "next", desc := "()Ljava/lang/Object;" } : Jvm.MethodName)) ∈ lw_all := lw_g (lw_at lw_m3 17 rfl) rfl
theorem q520 : (Jvm.Cond.classLink "MainframeDesk$Part" (47 : Nat) "java/lang/Long") ∈ lw_all := lw_g (lw_at lw_m3 29 rfl) rfl
theorem q521 : (Jvm.Cond.methodLink "MainframeDesk$Part" (49 : Nat) ({ cls := "java/lang/Long", name := "longValue", desc := "()J" } : Jvm.MethodName)) ∈ lw_all := lw_g (lw_at lw_m3 30 rfl) rfl
theorem q660 : (Jvm.Cond.castable "MainframeDesk$Part" "java/lang/Object") ∈ lw_tbl := lw_at lw_m3 169 rfl
theorem in_X1 : ∀ w ∈ wsX10, w ∈ lw_all := lw_in wsX10 [152, 154] (by decide +kernel) (by decide +kernel)

/-! MainframeDesk$Thing -/
set_option maxRecDepth 100000
def RX3 : String := "MainframeDesk$Thing"
def TX3 : u_T := fun k => match k with
  | 0 => ("MainframeDesk$Thing", "kind", "I", true)
  | 1 => ("MainframeDesk$Thing", "state", "LMainframeDesk$State;", false)
  | _ => ("MainframeDesk$Thing", "calls", "I", false)
def tyX3 : Nat → FieldType := fun k => match k with
  | 0 => .int
  | 1 => .object "MainframeDesk$State"
  | _ => .int
abbrev wsX30 : List Cond := u_ws RX3 TX3 3
theorem nmX3 : ∀ a, a < 3 → ∀ b, b < 3 → a ≠ b → (TX3 a).2.1 ≠ (TX3 b).2.1 := by decide +kernel
theorem tyX3_ok : ∀ k, k < 3 → parseFieldDescriptor (TX3 k).2.2.1 = some (tyX3 k) := by decide +kernel
abbrev cX3_init : ByteArray := prog_5_method_1_code
def yX3_init : MethodName := ⟨RX3, "<init>", "(I)V"⟩
theorem dX3_init_0 : decode cX3_init 0 = .ok (.aload_n 0, 1) := by decide +kernel
theorem dX3_init_1 : decode cX3_init 1 = .ok (.invokespecial 1, 3) := by decide +kernel
theorem dX3_init_4 : decode cX3_init 4 = .ok (.aload_n 0, 1) := by decide +kernel
theorem dX3_init_5 : decode cX3_init 5 = .ok (.getstatic 7, 3) := by decide +kernel
theorem dX3_init_8 : decode cX3_init 8 = .ok (.putfield 13, 3) := by decide +kernel
theorem dX3_init_11 : decode cX3_init 11 = .ok (.aload_n 0, 1) := by decide +kernel
theorem dX3_init_12 : decode cX3_init 12 = .ok (.iload_n 1, 1) := by decide +kernel
theorem dX3_init_13 : decode cX3_init 13 = .ok (.putfield 18, 3) := by decide +kernel
theorem dX3_init_16 : decode cX3_init 16 = .ok (.return_, 1) := by decide +kernel
abbrev cX3_isThere : ByteArray := prog_5_method_2_code
def yX3_isThere : MethodName := ⟨RX3, "isThere", "()Z"⟩
theorem dX3_isThere_0 : decode cX3_isThere 0 = .ok (.aload_n 0, 1) := by decide +kernel
theorem dX3_isThere_1 : decode cX3_isThere 1 = .ok (.getfield 13, 3) := by decide +kernel
theorem dX3_isThere_4 : decode cX3_isThere 4 = .ok (.getstatic 7, 3) := by decide +kernel
theorem dX3_isThere_7 : decode cX3_isThere 7 = .ok (.if_acmp .ne 7, 3) := by decide +kernel
theorem dX3_isThere_10 : decode cX3_isThere 10 = .ok (.iconst 1, 1) := by decide +kernel
theorem dX3_isThere_11 : decode cX3_isThere 11 = .ok (.goto 4, 3) := by decide +kernel
theorem dX3_isThere_14 : decode cX3_isThere 14 = .ok (.iconst 0, 1) := by decide +kernel
theorem dX3_isThere_15 : decode cX3_isThere 15 = .ok (.ireturn, 1) := by decide +kernel
theorem q27 : (Jvm.Cond.initialized "MainframeDesk$Thing") ∈ lw_all := lw_g (lw_at lw_m1 16 rfl) rfl
theorem q118 : (Jvm.Cond.selects "MainframeDesk$Thing" ({ cls := "java/lang/Object", name := "getClass", desc := "()Ljava/lang/Class;" } : Jvm.MethodName) ({ cls := "java/lang/Object", name := "getClass", desc := "()Ljava/lang/Class;" } : Jvm.MethodName)) ∈ lw_all := lw_g (lw_at lw_m1 107 rfl) rfl
theorem q243 : (Jvm.Cond.instantiable "MainframeDesk$Thing" (3 : Nat)) ∈ lw_all := lw_g (lw_at lw_m1 232 rfl) rfl
theorem q245 : (Jvm.Cond.instanceMethod ({ cls := "MainframeDesk$Thing", name := "<init>", desc := "(I)V" } : Jvm.MethodName)) ∈ lw_all := lw_g (lw_at lw_m1 234 rfl) rfl
theorem q246 : (Jvm.Cond.code ({ cls := "MainframeDesk$Thing", name := "<init>", desc := "(I)V" } : Jvm.MethodName) prog_5_method_1_code (2 : Nat) (Option.none : Option Jvm.ClassFile.FieldType)) ∈ lw_all := lw_g (lw_at lw_m1 235 rfl) rfl
theorem q247 : (Jvm.Cond.methodLink "MainframeDesk$Thing" (1 : Nat) ({ cls := "java/lang/Object", name := "<init>", desc := "()V" } : Jvm.MethodName)) ∈ lw_all := lw_g (lw_at lw_m1 236 rfl) rfl
theorem q248 : (Jvm.Cond.fieldLink "MainframeDesk$Thing" (7 : Nat) "MainframeDesk$State" "THERE" "LMainframeDesk$State;") ∈ lw_all := lw_g (lw_at lw_m1 237 rfl) rfl
theorem q250 : (Jvm.Cond.fieldLink "MainframeDesk$Thing" (18 : Nat) "MainframeDesk$Thing" "kind" "I") ∈ lw_all := lw_g (lw_at lw_m1 239 rfl) rfl
theorem q253 : (Jvm.Cond.fieldLink "MainframeDesk$Thing" (13 : Nat) "MainframeDesk$Thing" "state" "LMainframeDesk$State;") ∈ lw_all := lw_g (lw_at lw_m2 2 rfl) rfl
theorem q257 : (Jvm.Cond.laysFinal "MainframeDesk$Thing" "MainframeDesk$Thing" "kind" "I") ∈ lw_all := lw_g (lw_at lw_m2 6 rfl) rfl
theorem q258 : (Jvm.Cond.soleField "MainframeDesk$Thing" "kind") ∈ lw_all := lw_g (lw_at lw_m2 7 rfl) rfl
theorem q259 : (Jvm.Cond.lays "MainframeDesk$Thing" "MainframeDesk$Thing" "state" "LMainframeDesk$State;") ∈ lw_all := lw_g (lw_at lw_m2 8 rfl) rfl
theorem q260 : (Jvm.Cond.soleField "MainframeDesk$Thing" "state") ∈ lw_all := lw_g (lw_at lw_m2 9 rfl) rfl
theorem q261 : (Jvm.Cond.lays "MainframeDesk$Thing" "MainframeDesk$Thing" "calls" "I") ∈ lw_all := lw_g (lw_at lw_m2 10 rfl) rfl
theorem q262 : (Jvm.Cond.soleField "MainframeDesk$Thing" "calls") ∈ lw_all := lw_g (lw_at lw_m2 11 rfl) rfl
theorem q263 : (Jvm.Cond.superclass "MainframeDesk$Thing" "java/lang/Object") ∈ lw_all := lw_g (lw_at lw_m2 12 rfl) rfl
theorem q273 : (Jvm.Cond.instanceMethod ({ cls := "MainframeDesk$Thing", name := "isThere", desc := "()Z" } : Jvm.MethodName)) ∈ lw_all := lw_g (lw_at lw_m2 22 rfl) rfl
theorem q274 : (Jvm.Cond.selects "MainframeDesk$Thing" ({ cls := "MainframeDesk$Thing", name := "isThere", desc := "()Z" } : Jvm.MethodName) ({ cls := "MainframeDesk$Thing", name := "isThere", desc := "()Z" } : Jvm.MethodName)) ∈ lw_all := lw_g (lw_at lw_m2 23 rfl) rfl
theorem q275 : (Jvm.Cond.code ({ cls := "MainframeDesk$Thing", name := "isThere", desc := "()Z" } : Jvm.MethodName) prog_5_method_2_code (1 : Nat) (Option.some Jvm.ClassFile.FieldType.boolean)) ∈ lw_all := lw_g (lw_at lw_m2 24 rfl) rfl
theorem q665 : (Jvm.Cond.castable "MainframeDesk$Thing" "java/lang/Object") ∈ lw_tbl := lw_at lw_m3 174 rfl
theorem in_X3 : ∀ w ∈ wsX30, w ∈ lw_all := lw_in wsX30 [257, 259, 261] (by decide +kernel) (by decide +kernel)

/-! MainframeDesk -/
set_option maxRecDepth 100000
def RX0 : String := "MainframeDesk"
def TX0 : u_T := fun k => match k with
  | 0 => ("MainframeDesk", "things", "Ljava/util/ArrayList;", true)
  | 1 => ("MainframeDesk", "rows", "Ljava/util/ArrayList;", true)
  | 2 => ("MainframeDesk", "parts", "[LMainframeDesk$Part;", true)
  | 3 => ("MainframeDesk", "failure", "I", false)
  | 4 => ("MainframeDesk", "failedCall", "I", false)
  | 5 => ("MainframeDesk", "failedThing", "I", false)
  | 6 => ("MainframeDesk", "failures", "I", false)
  | 7 => ("MainframeDesk", "refusals", "I", false)
  | _ => ("MainframeDesk", "answers", "I", false)
def tyX0 : Nat → FieldType := fun k => match k with
  | 0 => .object "java/util/ArrayList"
  | 1 => .object "java/util/ArrayList"
  | 2 => .array (.object "MainframeDesk$Part")
  | 3 => .int
  | 4 => .int
  | 5 => .int
  | 6 => .int
  | 7 => .int
  | _ => .int
abbrev wsX00 : List Cond := u_ws RX0 TX0 9
theorem nmX0 : ∀ a, a < 9 → ∀ b, b < 9 → a ≠ b → (TX0 a).2.1 ≠ (TX0 b).2.1 := by decide +kernel
theorem tyX0_ok : ∀ k, k < 9 → parseFieldDescriptor (TX0 k).2.2.1 = some (tyX0 k) := by decide +kernel
abbrev cX0_init : ByteArray := prog_1_method_1_code
def yX0_init : MethodName := ⟨RX0, "<init>", "()V"⟩
theorem dX0_init_0 : decode cX0_init 0 = .ok (.aload_n 0, 1) := by decide +kernel
theorem dX0_init_1 : decode cX0_init 1 = .ok (.invokespecial 1, 3) := by decide +kernel
theorem dX0_init_4 : decode cX0_init 4 = .ok (.aload_n 0, 1) := by decide +kernel
theorem dX0_init_5 : decode cX0_init 5 = .ok (.new 7, 3) := by decide +kernel
theorem dX0_init_8 : decode cX0_init 8 = .ok (.dup, 1) := by decide +kernel
theorem dX0_init_9 : decode cX0_init 9 = .ok (.invokespecial 9, 3) := by decide +kernel
theorem dX0_init_12 : decode cX0_init 12 = .ok (.putfield 10, 3) := by decide +kernel
theorem dX0_init_15 : decode cX0_init 15 = .ok (.aload_n 0, 1) := by decide +kernel
theorem dX0_init_16 : decode cX0_init 16 = .ok (.new 7, 3) := by decide +kernel
theorem dX0_init_19 : decode cX0_init 19 = .ok (.dup, 1) := by decide +kernel
theorem dX0_init_20 : decode cX0_init 20 = .ok (.invokespecial 9, 3) := by decide +kernel
theorem dX0_init_23 : decode cX0_init 23 = .ok (.putfield 16, 3) := by decide +kernel
theorem dX0_init_26 : decode cX0_init 26 = .ok (.aload_n 0, 1) := by decide +kernel
theorem dX0_init_27 : decode cX0_init 27 = .ok (.bipush 32, 2) := by decide +kernel
theorem dX0_init_29 : decode cX0_init 29 = .ok (.anewarray 19, 3) := by decide +kernel
theorem dX0_init_32 : decode cX0_init 32 = .ok (.putfield 21, 3) := by decide +kernel
theorem dX0_init_35 : decode cX0_init 35 = .ok (.iconst 0, 1) := by decide +kernel
theorem dX0_init_36 : decode cX0_init 36 = .ok (.istore_n 1, 1) := by decide +kernel
theorem dX0_init_37 : decode cX0_init 37 = .ok (.iload_n 1, 1) := by decide +kernel
theorem dX0_init_38 : decode cX0_init 38 = .ok (.iconst 4, 1) := by decide +kernel
theorem dX0_init_39 : decode cX0_init 39 = .ok (.if_icmp .ge 24, 3) := by decide +kernel
theorem dX0_init_42 : decode cX0_init 42 = .ok (.aload_n 0, 1) := by decide +kernel
theorem dX0_init_43 : decode cX0_init 43 = .ok (.getfield 16, 3) := by decide +kernel
theorem dX0_init_46 : decode cX0_init 46 = .ok (.new 7, 3) := by decide +kernel
theorem dX0_init_49 : decode cX0_init 49 = .ok (.dup, 1) := by decide +kernel
theorem dX0_init_50 : decode cX0_init 50 = .ok (.invokespecial 9, 3) := by decide +kernel
theorem dX0_init_53 : decode cX0_init 53 = .ok (.invokevirtual 25, 3) := by decide +kernel
theorem dX0_init_56 : decode cX0_init 56 = .ok (.pop, 1) := by decide +kernel
theorem dX0_init_57 : decode cX0_init 57 = .ok (.iinc 1 1, 3) := by decide +kernel
theorem dX0_init_60 : decode cX0_init 60 = .ok (.goto (-23), 3) := by decide +kernel
theorem dX0_init_63 : decode cX0_init 63 = .ok (.iconst 0, 1) := by decide +kernel
theorem dX0_init_64 : decode cX0_init 64 = .ok (.istore_n 1, 1) := by decide +kernel
theorem dX0_init_65 : decode cX0_init 65 = .ok (.iload_n 1, 1) := by decide +kernel
theorem dX0_init_66 : decode cX0_init 66 = .ok (.bipush 32, 2) := by decide +kernel
theorem dX0_init_68 : decode cX0_init 68 = .ok (.if_icmp .ge 22, 3) := by decide +kernel
theorem dX0_init_71 : decode cX0_init 71 = .ok (.aload_n 0, 1) := by decide +kernel
theorem dX0_init_72 : decode cX0_init 72 = .ok (.getfield 21, 3) := by decide +kernel
theorem dX0_init_75 : decode cX0_init 75 = .ok (.iload_n 1, 1) := by decide +kernel
theorem dX0_init_76 : decode cX0_init 76 = .ok (.new 19, 3) := by decide +kernel
theorem dX0_init_79 : decode cX0_init 79 = .ok (.dup, 1) := by decide +kernel
theorem dX0_init_80 : decode cX0_init 80 = .ok (.invokespecial 29, 3) := by decide +kernel
theorem dX0_init_83 : decode cX0_init 83 = .ok (.aastore, 1) := by decide +kernel
theorem dX0_init_84 : decode cX0_init 84 = .ok (.iinc 1 1, 3) := by decide +kernel
theorem dX0_init_87 : decode cX0_init 87 = .ok (.goto (-22), 3) := by decide +kernel
theorem dX0_init_90 : decode cX0_init 90 = .ok (.return_, 1) := by decide +kernel
abbrev cX0_collect : ByteArray := prog_1_method_4_code
def yX0_collect : MethodName := ⟨RX0, "collect", "(IJ)I"⟩
theorem dX0_collect_0 : decode cX0_collect 0 = .ok (.iload_n 1, 1) := by decide +kernel
theorem dX0_collect_1 : decode cX0_collect 1 = .ok (.ifCond .lt 27, 3) := by decide +kernel
theorem dX0_collect_4 : decode cX0_collect 4 = .ok (.iload_n 1, 1) := by decide +kernel
theorem dX0_collect_5 : decode cX0_collect 5 = .ok (.iconst 4, 1) := by decide +kernel
theorem dX0_collect_6 : decode cX0_collect 6 = .ok (.if_icmp .ge 22, 3) := by decide +kernel
theorem dX0_collect_9 : decode cX0_collect 9 = .ok (.aload_n 0, 1) := by decide +kernel
theorem dX0_collect_10 : decode cX0_collect 10 = .ok (.getfield 16, 3) := by decide +kernel
theorem dX0_collect_13 : decode cX0_collect 13 = .ok (.iload_n 1, 1) := by decide +kernel
theorem dX0_collect_14 : decode cX0_collect 14 = .ok (.invokevirtual 34, 3) := by decide +kernel
theorem dX0_collect_17 : decode cX0_collect 17 = .ok (.checkcast 7, 3) := by decide +kernel
theorem dX0_collect_20 : decode cX0_collect 20 = .ok (.invokevirtual 30, 3) := by decide +kernel
theorem dX0_collect_23 : decode cX0_collect 23 = .ok (.bipush 50, 2) := by decide +kernel
theorem dX0_collect_25 : decode cX0_collect 25 = .ok (.if_icmp .ne 5, 3) := by decide +kernel
theorem dX0_collect_28 : decode cX0_collect 28 = .ok (.iconst (-1), 1) := by decide +kernel
theorem dX0_collect_29 : decode cX0_collect 29 = .ok (.ireturn, 1) := by decide +kernel
theorem dX0_collect_30 : decode cX0_collect 30 = .ok (.aload_n 0, 1) := by decide +kernel
theorem dX0_collect_31 : decode cX0_collect 31 = .ok (.getfield 16, 3) := by decide +kernel
theorem dX0_collect_34 : decode cX0_collect 34 = .ok (.iload_n 1, 1) := by decide +kernel
theorem dX0_collect_35 : decode cX0_collect 35 = .ok (.invokevirtual 34, 3) := by decide +kernel
theorem dX0_collect_38 : decode cX0_collect 38 = .ok (.checkcast 7, 3) := by decide +kernel
theorem dX0_collect_41 : decode cX0_collect 41 = .ok (.lload_n 2, 1) := by decide +kernel
theorem dX0_collect_42 : decode cX0_collect 42 = .ok (.invokestatic 40, 3) := by decide +kernel
theorem dX0_collect_45 : decode cX0_collect 45 = .ok (.invokevirtual 25, 3) := by decide +kernel
theorem dX0_collect_48 : decode cX0_collect 48 = .ok (.pop, 1) := by decide +kernel
theorem dX0_collect_49 : decode cX0_collect 49 = .ok (.aload_n 0, 1) := by decide +kernel
theorem dX0_collect_50 : decode cX0_collect 50 = .ok (.getfield 16, 3) := by decide +kernel
theorem dX0_collect_53 : decode cX0_collect 53 = .ok (.iload_n 1, 1) := by decide +kernel
theorem dX0_collect_54 : decode cX0_collect 54 = .ok (.invokevirtual 34, 3) := by decide +kernel
theorem dX0_collect_57 : decode cX0_collect 57 = .ok (.checkcast 7, 3) := by decide +kernel
theorem dX0_collect_60 : decode cX0_collect 60 = .ok (.invokevirtual 30, 3) := by decide +kernel
theorem dX0_collect_63 : decode cX0_collect 63 = .ok (.ireturn, 1) := by decide +kernel
abbrev cX0_answer : ByteArray := prog_1_method_5_code
def yX0_answer : MethodName := ⟨RX0, "answer", "(IJ)I"⟩
theorem dX0_answer_0 : decode cX0_answer 0 = .ok (.iload_n 1, 1) := by decide +kernel
theorem dX0_answer_1 : decode cX0_answer 1 = .ok (.invokestatic 46, 3) := by decide +kernel
theorem dX0_answer_4 : decode cX0_answer 4 = .ok (.ifCond .ne 5, 3) := by decide +kernel
theorem dX0_answer_7 : decode cX0_answer 7 = .ok (.iconst (-1), 1) := by decide +kernel
theorem dX0_answer_8 : decode cX0_answer 8 = .ok (.ireturn, 1) := by decide +kernel
theorem dX0_answer_9 : decode cX0_answer 9 = .ok (.aload_n 0, 1) := by decide +kernel
theorem dX0_answer_10 : decode cX0_answer 10 = .ok (.getfield 21, 3) := by decide +kernel
theorem dX0_answer_13 : decode cX0_answer 13 = .ok (.iload_n 1, 1) := by decide +kernel
theorem dX0_answer_14 : decode cX0_answer 14 = .ok (.aaload, 1) := by decide +kernel
theorem dX0_answer_15 : decode cX0_answer 15 = .ok (.lload_n 2, 1) := by decide +kernel
theorem dX0_answer_16 : decode cX0_answer 16 = .ok (.putfield 50, 3) := by decide +kernel
theorem dX0_answer_19 : decode cX0_answer 19 = .ok (.iconst 1, 1) := by decide +kernel
theorem dX0_answer_20 : decode cX0_answer 20 = .ok (.ireturn, 1) := by decide +kernel
abbrev cX0_isCall : ByteArray := prog_1_method_3_code
def yX0_isCall : MethodName := ⟨RX0, "isCall", "(I)Z"⟩
theorem dX0_isCall_0 : decode cX0_isCall 0 = .ok (.iload_n 0, 1) := by decide +kernel
theorem dX0_isCall_1 : decode cX0_isCall 1 = .ok (.ifCond .lt 13, 3) := by decide +kernel
theorem dX0_isCall_4 : decode cX0_isCall 4 = .ok (.iload_n 0, 1) := by decide +kernel
theorem dX0_isCall_5 : decode cX0_isCall 5 = .ok (.bipush 32, 2) := by decide +kernel
theorem dX0_isCall_7 : decode cX0_isCall 7 = .ok (.if_icmp .ge 7, 3) := by decide +kernel
theorem dX0_isCall_10 : decode cX0_isCall 10 = .ok (.iconst 1, 1) := by decide +kernel
theorem dX0_isCall_11 : decode cX0_isCall 11 = .ok (.goto 4, 3) := by decide +kernel
theorem dX0_isCall_14 : decode cX0_isCall 14 = .ok (.iconst 0, 1) := by decide +kernel
theorem dX0_isCall_15 : decode cX0_isCall 15 = .ok (.ireturn, 1) := by decide +kernel
abbrev cX0_fails : ByteArray := prog_1_method_6_code
def yX0_fails : MethodName := ⟨RX0, "fails", "(II)I"⟩
theorem dX0_fails_0 : decode cX0_fails 0 = .ok (.iload_n 1, 1) := by decide +kernel
theorem dX0_fails_1 : decode cX0_fails 1 = .ok (.invokestatic 46, 3) := by decide +kernel
theorem dX0_fails_4 : decode cX0_fails 4 = .ok (.ifCond .eq 13, 3) := by decide +kernel
theorem dX0_fails_7 : decode cX0_fails 7 = .ok (.iload_n 2, 1) := by decide +kernel
theorem dX0_fails_8 : decode cX0_fails 8 = .ok (.ifCond .lt 9, 3) := by decide +kernel
theorem dX0_fails_11 : decode cX0_fails 11 = .ok (.iload_n 2, 1) := by decide +kernel
theorem dX0_fails_12 : decode cX0_fails 12 = .ok (.bipush 6, 2) := by decide +kernel
theorem dX0_fails_14 : decode cX0_fails 14 = .ok (.if_icmp .le 5, 3) := by decide +kernel
theorem dX0_fails_17 : decode cX0_fails 17 = .ok (.iconst (-1), 1) := by decide +kernel
theorem dX0_fails_18 : decode cX0_fails 18 = .ok (.ireturn, 1) := by decide +kernel
theorem dX0_fails_19 : decode cX0_fails 19 = .ok (.aload_n 0, 1) := by decide +kernel
theorem dX0_fails_20 : decode cX0_fails 20 = .ok (.getfield 21, 3) := by decide +kernel
theorem dX0_fails_23 : decode cX0_fails 23 = .ok (.iload_n 1, 1) := by decide +kernel
theorem dX0_fails_24 : decode cX0_fails 24 = .ok (.aaload, 1) := by decide +kernel
theorem dX0_fails_25 : decode cX0_fails 25 = .ok (.getfield 54, 3) := by decide +kernel
theorem dX0_fails_28 : decode cX0_fails 28 = .ok (.istore_n 3, 1) := by decide +kernel
theorem dX0_fails_29 : decode cX0_fails 29 = .ok (.aload_n 0, 1) := by decide +kernel
theorem dX0_fails_30 : decode cX0_fails 30 = .ok (.getfield 21, 3) := by decide +kernel
theorem dX0_fails_33 : decode cX0_fails 33 = .ok (.iload_n 1, 1) := by decide +kernel
theorem dX0_fails_34 : decode cX0_fails 34 = .ok (.aaload, 1) := by decide +kernel
theorem dX0_fails_35 : decode cX0_fails 35 = .ok (.iload_n 2, 1) := by decide +kernel
theorem dX0_fails_36 : decode cX0_fails 36 = .ok (.putfield 54, 3) := by decide +kernel
theorem dX0_fails_39 : decode cX0_fails 39 = .ok (.iload_n 3, 1) := by decide +kernel
theorem dX0_fails_40 : decode cX0_fails 40 = .ok (.ireturn, 1) := by decide +kernel
abbrev cX0_make : ByteArray := prog_1_method_7_code
def yX0_make : MethodName := ⟨RX0, "make", "(I)I"⟩
theorem dX0_make_0 : decode cX0_make 0 = .ok (.iload_n 1, 1) := by decide +kernel
theorem dX0_make_1 : decode cX0_make 1 = .ok (.ifCond .lt 22, 3) := by decide +kernel
theorem dX0_make_4 : decode cX0_make 4 = .ok (.iload_n 1, 1) := by decide +kernel
theorem dX0_make_5 : decode cX0_make 5 = .ok (.bipush 8, 2) := by decide +kernel
theorem dX0_make_7 : decode cX0_make 7 = .ok (.if_icmp .ge 16, 3) := by decide +kernel
theorem dX0_make_10 : decode cX0_make 10 = .ok (.aload_n 0, 1) := by decide +kernel
theorem dX0_make_11 : decode cX0_make 11 = .ok (.getfield 10, 3) := by decide +kernel
theorem dX0_make_14 : decode cX0_make 14 = .ok (.invokevirtual 30, 3) := by decide +kernel
theorem dX0_make_17 : decode cX0_make 17 = .ok (.sipush 200, 3) := by decide +kernel
theorem dX0_make_20 : decode cX0_make 20 = .ok (.if_icmp .ne 5, 3) := by decide +kernel
theorem dX0_make_23 : decode cX0_make 23 = .ok (.iconst (-1), 1) := by decide +kernel
theorem dX0_make_24 : decode cX0_make 24 = .ok (.ireturn, 1) := by decide +kernel
theorem dX0_make_25 : decode cX0_make 25 = .ok (.aload_n 0, 1) := by decide +kernel
theorem dX0_make_26 : decode cX0_make 26 = .ok (.getfield 10, 3) := by decide +kernel
theorem dX0_make_29 : decode cX0_make 29 = .ok (.new 38, 3) := by decide +kernel
theorem dX0_make_32 : decode cX0_make 32 = .ok (.dup, 1) := by decide +kernel
theorem dX0_make_33 : decode cX0_make 33 = .ok (.iload_n 1, 1) := by decide +kernel
theorem dX0_make_34 : decode cX0_make 34 = .ok (.invokespecial 58, 3) := by decide +kernel
theorem dX0_make_37 : decode cX0_make 37 = .ok (.invokevirtual 25, 3) := by decide +kernel
theorem dX0_make_40 : decode cX0_make 40 = .ok (.pop, 1) := by decide +kernel
theorem dX0_make_41 : decode cX0_make 41 = .ok (.aload_n 0, 1) := by decide +kernel
theorem dX0_make_42 : decode cX0_make 42 = .ok (.getfield 10, 3) := by decide +kernel
theorem dX0_make_45 : decode cX0_make 45 = .ok (.invokevirtual 30, 3) := by decide +kernel
theorem dX0_make_48 : decode cX0_make 48 = .ok (.ireturn, 1) := by decide +kernel
abbrev cX0_drop : ByteArray := prog_1_method_8_code
def yX0_drop : MethodName := ⟨RX0, "drop", "(I)Z"⟩
theorem dX0_drop_0 : decode cX0_drop 0 = .ok (.aload_n 0, 1) := by decide +kernel
theorem dX0_drop_1 : decode cX0_drop 1 = .ok (.iload_n 1, 1) := by decide +kernel
theorem dX0_drop_2 : decode cX0_drop 2 = .ok (.invokevirtual 61, 3) := by decide +kernel
theorem dX0_drop_5 : decode cX0_drop 5 = .ok (.astore_n 2, 1) := by decide +kernel
theorem dX0_drop_6 : decode cX0_drop 6 = .ok (.aload_n 2, 1) := by decide +kernel
theorem dX0_drop_7 : decode cX0_drop 7 = .ok (.ifnull 10, 3) := by decide +kernel
theorem dX0_drop_10 : decode cX0_drop 10 = .ok (.aload_n 2, 1) := by decide +kernel
theorem dX0_drop_11 : decode cX0_drop 11 = .ok (.invokevirtual 65, 3) := by decide +kernel
theorem dX0_drop_14 : decode cX0_drop 14 = .ok (.ifCond .ne 5, 3) := by decide +kernel
theorem dX0_drop_17 : decode cX0_drop 17 = .ok (.iconst 0, 1) := by decide +kernel
theorem dX0_drop_18 : decode cX0_drop 18 = .ok (.ireturn, 1) := by decide +kernel
theorem dX0_drop_19 : decode cX0_drop 19 = .ok (.aload_n 2, 1) := by decide +kernel
theorem dX0_drop_20 : decode cX0_drop 20 = .ok (.getstatic 69, 3) := by decide +kernel
theorem dX0_drop_23 : decode cX0_drop 23 = .ok (.putfield 75, 3) := by decide +kernel
theorem dX0_drop_26 : decode cX0_drop 26 = .ok (.iconst 1, 1) := by decide +kernel
theorem dX0_drop_27 : decode cX0_drop 27 = .ok (.ireturn, 1) := by decide +kernel
abbrev cX0_find : ByteArray := prog_1_method_2_code
def yX0_find : MethodName := ⟨RX0, "find", "(I)LMainframeDesk$Thing;"⟩
theorem dX0_find_0 : decode cX0_find 0 = .ok (.iload_n 1, 1) := by decide +kernel
theorem dX0_find_1 : decode cX0_find 1 = .ok (.iconst 1, 1) := by decide +kernel
theorem dX0_find_2 : decode cX0_find 2 = .ok (.if_icmp .lt 14, 3) := by decide +kernel
theorem dX0_find_5 : decode cX0_find 5 = .ok (.iload_n 1, 1) := by decide +kernel
theorem dX0_find_6 : decode cX0_find 6 = .ok (.aload_n 0, 1) := by decide +kernel
theorem dX0_find_7 : decode cX0_find 7 = .ok (.getfield 10, 3) := by decide +kernel
theorem dX0_find_10 : decode cX0_find 10 = .ok (.invokevirtual 30, 3) := by decide +kernel
theorem dX0_find_13 : decode cX0_find 13 = .ok (.if_icmp .le 7, 3) := by decide +kernel
theorem dX0_find_16 : decode cX0_find 16 = .ok (.aconst_null, 1) := by decide +kernel
theorem dX0_find_17 : decode cX0_find 17 = .ok (.goto 16, 3) := by decide +kernel
theorem dX0_find_20 : decode cX0_find 20 = .ok (.aload_n 0, 1) := by decide +kernel
theorem dX0_find_21 : decode cX0_find 21 = .ok (.getfield 10, 3) := by decide +kernel
theorem dX0_find_24 : decode cX0_find 24 = .ok (.iload_n 1, 1) := by decide +kernel
theorem dX0_find_25 : decode cX0_find 25 = .ok (.iconst 1, 1) := by decide +kernel
theorem dX0_find_26 : decode cX0_find 26 = .ok (.isub, 1) := by decide +kernel
theorem dX0_find_27 : decode cX0_find 27 = .ok (.invokevirtual 34, 3) := by decide +kernel
theorem dX0_find_30 : decode cX0_find 30 = .ok (.checkcast 38, 3) := by decide +kernel
theorem dX0_find_33 : decode cX0_find 33 = .ok (.areturn, 1) := by decide +kernel
abbrev cX0_call : ByteArray := prog_1_method_12_code
def yX0_call : MethodName := ⟨RX0, "call", "(IIJ)J"⟩
theorem dX0_call_0 : decode cX0_call 0 = .ok (.aload_n 0, 1) := by decide +kernel
theorem dX0_call_1 : decode cX0_call 1 = .ok (.iload_n 2, 1) := by decide +kernel
theorem dX0_call_2 : decode cX0_call 2 = .ok (.invokevirtual 61, 3) := by decide +kernel
theorem dX0_call_5 : decode cX0_call 5 = .ok (.astore 5, 2) := by decide +kernel
theorem dX0_call_7 : decode cX0_call 7 = .ok (.aload_n 0, 1) := by decide +kernel
theorem dX0_call_8 : decode cX0_call 8 = .ok (.iload_n 1, 1) := by decide +kernel
theorem dX0_call_9 : decode cX0_call 9 = .ok (.aload 5, 2) := by decide +kernel
theorem dX0_call_11 : decode cX0_call 11 = .ok (.lload_n 3, 1) := by decide +kernel
theorem dX0_call_12 : decode cX0_call 12 = .ok (.invokevirtual 109, 3) := by decide +kernel
theorem dX0_call_15 : decode cX0_call 15 = .ok (.istore 6, 2) := by decide +kernel
theorem dX0_call_17 : decode cX0_call 17 = .ok (.iload 6, 2) := by decide +kernel
theorem dX0_call_19 : decode cX0_call 19 = .ok (.ifCond .eq 17, 3) := by decide +kernel
theorem dX0_call_22 : decode cX0_call 22 = .ok (.aload_n 0, 1) := by decide +kernel
theorem dX0_call_23 : decode cX0_call 23 = .ok (.dup, 1) := by decide +kernel
theorem dX0_call_24 : decode cX0_call 24 = .ok (.getfield 113, 3) := by decide +kernel
theorem dX0_call_27 : decode cX0_call 27 = .ok (.iconst 1, 1) := by decide +kernel
theorem dX0_call_28 : decode cX0_call 28 = .ok (.iadd, 1) := by decide +kernel
theorem dX0_call_29 : decode cX0_call 29 = .ok (.putfield 113, 3) := by decide +kernel
theorem dX0_call_32 : decode cX0_call 32 = .ok (.iload 6, 2) := by decide +kernel
theorem dX0_call_34 : decode cX0_call 34 = .ok (.i2l, 1) := by decide +kernel
theorem dX0_call_35 : decode cX0_call 35 = .ok (.lreturn, 1) := by decide +kernel
theorem dX0_call_36 : decode cX0_call 36 = .ok (.aload_n 0, 1) := by decide +kernel
theorem dX0_call_37 : decode cX0_call 37 = .ok (.getfield 96, 3) := by decide +kernel
theorem dX0_call_40 : decode cX0_call 40 = .ok (.istore 7, 2) := by decide +kernel
theorem dX0_call_42 : decode cX0_call 42 = .ok (.aload_n 0, 1) := by decide +kernel
theorem dX0_call_43 : decode cX0_call 43 = .ok (.iconst 0, 1) := by decide +kernel
theorem dX0_call_44 : decode cX0_call 44 = .ok (.putfield 96, 3) := by decide +kernel
theorem dX0_call_47 : decode cX0_call 47 = .ok (.aload_n 0, 1) := by decide +kernel
theorem dX0_call_48 : decode cX0_call 48 = .ok (.iload_n 1, 1) := by decide +kernel
theorem dX0_call_49 : decode cX0_call 49 = .ok (.aload 5, 2) := by decide +kernel
theorem dX0_call_51 : decode cX0_call 51 = .ok (.lload_n 3, 1) := by decide +kernel
theorem dX0_call_52 : decode cX0_call 52 = .ok (.invokevirtual 116, 3) := by decide +kernel
theorem dX0_call_55 : decode cX0_call 55 = .ok (.lstore 8, 2) := by decide +kernel
theorem dX0_call_57 : decode cX0_call 57 = .ok (.iload_n 1, 1) := by decide +kernel
theorem dX0_call_58 : decode cX0_call 58 = .ok (.bipush 8, 2) := by decide +kernel
theorem dX0_call_60 : decode cX0_call 60 = .ok (.if_icmp .lt 19, 3) := by decide +kernel
theorem dX0_call_63 : decode cX0_call 63 = .ok (.aload_n 0, 1) := by decide +kernel
theorem dX0_call_64 : decode cX0_call 64 = .ok (.getfield 16, 3) := by decide +kernel
theorem dX0_call_67 : decode cX0_call 67 = .ok (.iload_n 1, 1) := by decide +kernel
theorem dX0_call_68 : decode cX0_call 68 = .ok (.iconst 4, 1) := by decide +kernel
theorem dX0_call_69 : decode cX0_call 69 = .ok (.irem, 1) := by decide +kernel
theorem dX0_call_70 : decode cX0_call 70 = .ok (.invokevirtual 34, 3) := by decide +kernel
theorem dX0_call_73 : decode cX0_call 73 = .ok (.checkcast 7, 3) := by decide +kernel
theorem dX0_call_76 : decode cX0_call 76 = .ok (.invokevirtual 120, 3) := by decide +kernel
theorem dX0_call_79 : decode cX0_call 79 = .ok (.aload_n 0, 1) := by decide +kernel
theorem dX0_call_80 : decode cX0_call 80 = .ok (.getfield 96, 3) := by decide +kernel
theorem dX0_call_83 : decode cX0_call 83 = .ok (.ifCond .ne 33, 3) := by decide +kernel
theorem dX0_call_86 : decode cX0_call 86 = .ok (.aload_n 0, 1) := by decide +kernel
theorem dX0_call_87 : decode cX0_call 87 = .ok (.iload 7, 2) := by decide +kernel
theorem dX0_call_89 : decode cX0_call 89 = .ok (.putfield 96, 3) := by decide +kernel
theorem dX0_call_92 : decode cX0_call 92 = .ok (.aload 5, 2) := by decide +kernel
theorem dX0_call_94 : decode cX0_call 94 = .ok (.dup, 1) := by decide +kernel
theorem dX0_call_95 : decode cX0_call 95 = .ok (.getfield 123, 3) := by decide +kernel
theorem dX0_call_98 : decode cX0_call 98 = .ok (.iconst 1, 1) := by decide +kernel
theorem dX0_call_99 : decode cX0_call 99 = .ok (.iadd, 1) := by decide +kernel
theorem dX0_call_100 : decode cX0_call 100 = .ok (.putfield 123, 3) := by decide +kernel
theorem dX0_call_103 : decode cX0_call 103 = .ok (.aload_n 0, 1) := by decide +kernel
theorem dX0_call_104 : decode cX0_call 104 = .ok (.dup, 1) := by decide +kernel
theorem dX0_call_105 : decode cX0_call 105 = .ok (.getfield 126, 3) := by decide +kernel
theorem dX0_call_108 : decode cX0_call 108 = .ok (.iconst 1, 1) := by decide +kernel
theorem dX0_call_109 : decode cX0_call 109 = .ok (.iadd, 1) := by decide +kernel
theorem dX0_call_110 : decode cX0_call 110 = .ok (.putfield 126, 3) := by decide +kernel
theorem dX0_call_113 : decode cX0_call 113 = .ok (.lload 8, 2) := by decide +kernel
theorem dX0_call_115 : decode cX0_call 115 = .ok (.lreturn, 1) := by decide +kernel
theorem dX0_call_116 : decode cX0_call 116 = .ok (.aload_n 0, 1) := by decide +kernel
theorem dX0_call_117 : decode cX0_call 117 = .ok (.dup, 1) := by decide +kernel
theorem dX0_call_118 : decode cX0_call 118 = .ok (.getfield 129, 3) := by decide +kernel
theorem dX0_call_121 : decode cX0_call 121 = .ok (.iconst 1, 1) := by decide +kernel
theorem dX0_call_122 : decode cX0_call 122 = .ok (.iadd, 1) := by decide +kernel
theorem dX0_call_123 : decode cX0_call 123 = .ok (.putfield 129, 3) := by decide +kernel
theorem dX0_call_126 : decode cX0_call 126 = .ok (.aload_n 0, 1) := by decide +kernel
theorem dX0_call_127 : decode cX0_call 127 = .ok (.iload_n 1, 1) := by decide +kernel
theorem dX0_call_128 : decode cX0_call 128 = .ok (.putfield 132, 3) := by decide +kernel
theorem dX0_call_131 : decode cX0_call 131 = .ok (.aload_n 0, 1) := by decide +kernel
theorem dX0_call_132 : decode cX0_call 132 = .ok (.iload_n 2, 1) := by decide +kernel
theorem dX0_call_133 : decode cX0_call 133 = .ok (.putfield 135, 3) := by decide +kernel
theorem dX0_call_136 : decode cX0_call 136 = .ok (.aload 5, 2) := by decide +kernel
theorem dX0_call_138 : decode cX0_call 138 = .ok (.getstatic 138, 3) := by decide +kernel
theorem dX0_call_141 : decode cX0_call 141 = .ok (.putfield 75, 3) := by decide +kernel
theorem dX0_call_144 : decode cX0_call 144 = .ok (.lload 8, 2) := by decide +kernel
theorem dX0_call_146 : decode cX0_call 146 = .ok (.lreturn, 1) := by decide +kernel
abbrev cX0_refusal : ByteArray := prog_1_method_9_code
def yX0_refusal : MethodName := ⟨RX0, "refusal", "(ILMainframeDesk$Thing;J)I"⟩
theorem dX0_refusal_0 : decode cX0_refusal 0 = .ok (.iload_n 1, 1) := by decide +kernel
theorem dX0_refusal_1 : decode cX0_refusal 1 = .ok (.invokestatic 46, 3) := by decide +kernel
theorem dX0_refusal_4 : decode cX0_refusal 4 = .ok (.ifCond .eq 18, 3) := by decide +kernel
theorem dX0_refusal_7 : decode cX0_refusal 7 = .ok (.aload_n 2, 1) := by decide +kernel
theorem dX0_refusal_8 : decode cX0_refusal 8 = .ok (.ifnull 14, 3) := by decide +kernel
theorem dX0_refusal_11 : decode cX0_refusal 11 = .ok (.aload_n 2, 1) := by decide +kernel
theorem dX0_refusal_12 : decode cX0_refusal 12 = .ok (.getfield 78, 3) := by decide +kernel
theorem dX0_refusal_15 : decode cX0_refusal 15 = .ok (.iload_n 1, 1) := by decide +kernel
theorem dX0_refusal_16 : decode cX0_refusal 16 = .ok (.bipush 8, 2) := by decide +kernel
theorem dX0_refusal_18 : decode cX0_refusal 18 = .ok (.irem, 1) := by decide +kernel
theorem dX0_refusal_19 : decode cX0_refusal 19 = .ok (.if_icmp .eq 6, 3) := by decide +kernel
theorem dX0_refusal_22 : decode cX0_refusal 22 = .ok (.bipush (-2), 2) := by decide +kernel
theorem dX0_refusal_24 : decode cX0_refusal 24 = .ok (.ireturn, 1) := by decide +kernel
theorem dX0_refusal_25 : decode cX0_refusal 25 = .ok (.lload_n 3, 1) := by decide +kernel
theorem dX0_refusal_26 : decode cX0_refusal 26 = .ok (.lconst 0, 1) := by decide +kernel
theorem dX0_refusal_27 : decode cX0_refusal 27 = .ok (.lcmp, 1) := by decide +kernel
theorem dX0_refusal_28 : decode cX0_refusal 28 = .ok (.ifCond .lt 11, 3) := by decide +kernel
theorem dX0_refusal_31 : decode cX0_refusal 31 = .ok (.lload_n 3, 1) := by decide +kernel
theorem dX0_refusal_32 : decode cX0_refusal 32 = .ok (.ldc2_w 81, 3) := by decide +kernel
theorem dX0_refusal_35 : decode cX0_refusal 35 = .ok (.lcmp, 1) := by decide +kernel
theorem dX0_refusal_36 : decode cX0_refusal 36 = .ok (.ifCond .le 6, 3) := by decide +kernel
theorem dX0_refusal_39 : decode cX0_refusal 39 = .ok (.bipush (-4), 2) := by decide +kernel
theorem dX0_refusal_41 : decode cX0_refusal 41 = .ok (.ireturn, 1) := by decide +kernel
theorem dX0_refusal_42 : decode cX0_refusal 42 = .ok (.aload_n 2, 1) := by decide +kernel
theorem dX0_refusal_43 : decode cX0_refusal 43 = .ok (.invokevirtual 65, 3) := by decide +kernel
theorem dX0_refusal_46 : decode cX0_refusal 46 = .ok (.ifCond .eq 28, 3) := by decide +kernel
theorem dX0_refusal_49 : decode cX0_refusal 49 = .ok (.iload_n 1, 1) := by decide +kernel
theorem dX0_refusal_50 : decode cX0_refusal 50 = .ok (.bipush 24, 2) := by decide +kernel
theorem dX0_refusal_52 : decode cX0_refusal 52 = .ok (.if_icmp .lt 27, 3) := by decide +kernel
theorem dX0_refusal_55 : decode cX0_refusal 55 = .ok (.aload_n 0, 1) := by decide +kernel
theorem dX0_refusal_56 : decode cX0_refusal 56 = .ok (.getfield 16, 3) := by decide +kernel
theorem dX0_refusal_59 : decode cX0_refusal 59 = .ok (.iload_n 1, 1) := by decide +kernel
theorem dX0_refusal_60 : decode cX0_refusal 60 = .ok (.iconst 4, 1) := by decide +kernel
theorem dX0_refusal_61 : decode cX0_refusal 61 = .ok (.irem, 1) := by decide +kernel
theorem dX0_refusal_62 : decode cX0_refusal 62 = .ok (.invokevirtual 34, 3) := by decide +kernel
theorem dX0_refusal_65 : decode cX0_refusal 65 = .ok (.checkcast 7, 3) := by decide +kernel
theorem dX0_refusal_68 : decode cX0_refusal 68 = .ok (.invokevirtual 83, 3) := by decide +kernel
theorem dX0_refusal_71 : decode cX0_refusal 71 = .ok (.ifCond .eq 8, 3) := by decide +kernel
theorem dX0_refusal_74 : decode cX0_refusal 74 = .ok (.bipush (-5), 2) := by decide +kernel
theorem dX0_refusal_76 : decode cX0_refusal 76 = .ok (.goto 4, 3) := by decide +kernel
theorem dX0_refusal_79 : decode cX0_refusal 79 = .ok (.iconst 0, 1) := by decide +kernel
theorem dX0_refusal_80 : decode cX0_refusal 80 = .ok (.ireturn, 1) := by decide +kernel
abbrev cX0_tried : ByteArray := prog_1_method_11_code
def yX0_tried : MethodName := ⟨RX0, "tried", "(ILMainframeDesk$Thing;J)J"⟩
theorem dX0_tried_0 : decode cX0_tried 0 = .ok (.aload_n 0, 1) := by decide +kernel
theorem dX0_tried_1 : decode cX0_tried 1 = .ok (.getfield 21, 3) := by decide +kernel
theorem dX0_tried_4 : decode cX0_tried 4 = .ok (.iload_n 1, 1) := by decide +kernel
theorem dX0_tried_5 : decode cX0_tried 5 = .ok (.aaload, 1) := by decide +kernel
theorem dX0_tried_6 : decode cX0_tried 6 = .ok (.aload_n 2, 1) := by decide +kernel
theorem dX0_tried_7 : decode cX0_tried 7 = .ok (.lload_n 3, 1) := by decide +kernel
theorem dX0_tried_8 : decode cX0_tried 8 = .ok (.aload_n 0, 1) := by decide +kernel
theorem dX0_tried_9 : decode cX0_tried 9 = .ok (.iload_n 1, 1) := by decide +kernel
theorem dX0_tried_10 : decode cX0_tried 10 = .ok (.invokevirtual 86, 3) := by decide +kernel
theorem dX0_tried_13 : decode cX0_tried 13 = .ok (.invokevirtual 90, 3) := by decide +kernel
theorem dX0_tried_16 : decode cX0_tried 16 = .ok (.lreturn, 1) := by decide +kernel
theorem dX0_tried_17 : decode cX0_tried 17 = .ok (.astore 5, 2) := by decide +kernel
theorem dX0_tried_19 : decode cX0_tried 19 = .ok (.aload_n 0, 1) := by decide +kernel
theorem dX0_tried_20 : decode cX0_tried 20 = .ok (.iconst 1, 1) := by decide +kernel
theorem dX0_tried_21 : decode cX0_tried 21 = .ok (.putfield 96, 3) := by decide +kernel
theorem dX0_tried_24 : decode cX0_tried 24 = .ok (.goto 51, 3) := by decide +kernel
theorem dX0_tried_27 : decode cX0_tried 27 = .ok (.astore 5, 2) := by decide +kernel
theorem dX0_tried_29 : decode cX0_tried 29 = .ok (.aload_n 0, 1) := by decide +kernel
theorem dX0_tried_30 : decode cX0_tried 30 = .ok (.iconst 2, 1) := by decide +kernel
theorem dX0_tried_31 : decode cX0_tried 31 = .ok (.putfield 96, 3) := by decide +kernel
theorem dX0_tried_34 : decode cX0_tried 34 = .ok (.goto 41, 3) := by decide +kernel
theorem dX0_tried_37 : decode cX0_tried 37 = .ok (.astore 5, 2) := by decide +kernel
theorem dX0_tried_39 : decode cX0_tried 39 = .ok (.aload_n 0, 1) := by decide +kernel
theorem dX0_tried_40 : decode cX0_tried 40 = .ok (.iconst 3, 1) := by decide +kernel
theorem dX0_tried_41 : decode cX0_tried 41 = .ok (.putfield 96, 3) := by decide +kernel
theorem dX0_tried_44 : decode cX0_tried 44 = .ok (.goto 31, 3) := by decide +kernel
theorem dX0_tried_47 : decode cX0_tried 47 = .ok (.astore 5, 2) := by decide +kernel
theorem dX0_tried_49 : decode cX0_tried 49 = .ok (.aload_n 0, 1) := by decide +kernel
theorem dX0_tried_50 : decode cX0_tried 50 = .ok (.iconst 4, 1) := by decide +kernel
theorem dX0_tried_51 : decode cX0_tried 51 = .ok (.putfield 96, 3) := by decide +kernel
theorem dX0_tried_54 : decode cX0_tried 54 = .ok (.goto 21, 3) := by decide +kernel
theorem dX0_tried_57 : decode cX0_tried 57 = .ok (.astore 5, 2) := by decide +kernel
theorem dX0_tried_59 : decode cX0_tried 59 = .ok (.aload_n 0, 1) := by decide +kernel
theorem dX0_tried_60 : decode cX0_tried 60 = .ok (.iconst 5, 1) := by decide +kernel
theorem dX0_tried_61 : decode cX0_tried 61 = .ok (.putfield 96, 3) := by decide +kernel
theorem dX0_tried_64 : decode cX0_tried 64 = .ok (.goto 11, 3) := by decide +kernel
theorem dX0_tried_67 : decode cX0_tried 67 = .ok (.astore 5, 2) := by decide +kernel
theorem dX0_tried_69 : decode cX0_tried 69 = .ok (.aload_n 0, 1) := by decide +kernel
theorem dX0_tried_70 : decode cX0_tried 70 = .ok (.bipush 6, 2) := by decide +kernel
theorem dX0_tried_72 : decode cX0_tried 72 = .ok (.putfield 96, 3) := by decide +kernel
theorem dX0_tried_75 : decode cX0_tried 75 = .ok (.ldc2_w 107, 3) := by decide +kernel
theorem dX0_tried_78 : decode cX0_tried 78 = .ok (.aload_n 0, 1) := by decide +kernel
theorem dX0_tried_79 : decode cX0_tried 79 = .ok (.getfield 96, 3) := by decide +kernel
theorem dX0_tried_82 : decode cX0_tried 82 = .ok (.i2l, 1) := by decide +kernel
theorem dX0_tried_83 : decode cX0_tried 83 = .ok (.lsub, 1) := by decide +kernel
theorem dX0_tried_84 : decode cX0_tried 84 = .ok (.lreturn, 1) := by decide +kernel
abbrev cX0_rowOf : ByteArray := prog_1_method_10_code
def yX0_rowOf : MethodName := ⟨RX0, "rowOf", "(I)Ljava/util/ArrayList;"⟩
theorem dX0_rowOf_0 : decode cX0_rowOf 0 = .ok (.iload_n 1, 1) := by decide +kernel
theorem dX0_rowOf_1 : decode cX0_rowOf 1 = .ok (.bipush 8, 2) := by decide +kernel
theorem dX0_rowOf_3 : decode cX0_rowOf 3 = .ok (.if_icmp .ge 13, 3) := by decide +kernel
theorem dX0_rowOf_6 : decode cX0_rowOf 6 = .ok (.new 7, 3) := by decide +kernel
theorem dX0_rowOf_9 : decode cX0_rowOf 9 = .ok (.dup, 1) := by decide +kernel
theorem dX0_rowOf_10 : decode cX0_rowOf 10 = .ok (.invokespecial 9, 3) := by decide +kernel
theorem dX0_rowOf_13 : decode cX0_rowOf 13 = .ok (.goto 16, 3) := by decide +kernel
theorem dX0_rowOf_16 : decode cX0_rowOf 16 = .ok (.aload_n 0, 1) := by decide +kernel
theorem dX0_rowOf_17 : decode cX0_rowOf 17 = .ok (.getfield 16, 3) := by decide +kernel
theorem dX0_rowOf_20 : decode cX0_rowOf 20 = .ok (.iload_n 1, 1) := by decide +kernel
theorem dX0_rowOf_21 : decode cX0_rowOf 21 = .ok (.iconst 4, 1) := by decide +kernel
theorem dX0_rowOf_22 : decode cX0_rowOf 22 = .ok (.irem, 1) := by decide +kernel
theorem dX0_rowOf_23 : decode cX0_rowOf 23 = .ok (.invokevirtual 34, 3) := by decide +kernel
theorem dX0_rowOf_26 : decode cX0_rowOf 26 = .ok (.checkcast 7, 3) := by decide +kernel
theorem dX0_rowOf_29 : decode cX0_rowOf 29 = .ok (.areturn, 1) := by decide +kernel
abbrev cX0_again : ByteArray := prog_1_method_13_code
def yX0_again : MethodName := ⟨RX0, "again", "(IIJ)J"⟩
theorem dX0_again_0 : decode cX0_again 0 = .ok (.aload_n 0, 1) := by decide +kernel
theorem dX0_again_1 : decode cX0_again 1 = .ok (.iload_n 2, 1) := by decide +kernel
theorem dX0_again_2 : decode cX0_again 2 = .ok (.invokevirtual 61, 3) := by decide +kernel
theorem dX0_again_5 : decode cX0_again 5 = .ok (.astore 5, 2) := by decide +kernel
theorem dX0_again_7 : decode cX0_again 7 = .ok (.aload_n 0, 1) := by decide +kernel
theorem dX0_again_8 : decode cX0_again 8 = .ok (.iload_n 1, 1) := by decide +kernel
theorem dX0_again_9 : decode cX0_again 9 = .ok (.aload 5, 2) := by decide +kernel
theorem dX0_again_11 : decode cX0_again 11 = .ok (.lload_n 3, 1) := by decide +kernel
theorem dX0_again_12 : decode cX0_again 12 = .ok (.invokevirtual 109, 3) := by decide +kernel
theorem dX0_again_15 : decode cX0_again 15 = .ok (.istore 6, 2) := by decide +kernel
theorem dX0_again_17 : decode cX0_again 17 = .ok (.iload 6, 2) := by decide +kernel
theorem dX0_again_19 : decode cX0_again 19 = .ok (.ifCond .eq 7, 3) := by decide +kernel
theorem dX0_again_22 : decode cX0_again 22 = .ok (.iload 6, 2) := by decide +kernel
theorem dX0_again_24 : decode cX0_again 24 = .ok (.i2l, 1) := by decide +kernel
theorem dX0_again_25 : decode cX0_again 25 = .ok (.lreturn, 1) := by decide +kernel
theorem dX0_again_26 : decode cX0_again 26 = .ok (.aload_n 0, 1) := by decide +kernel
theorem dX0_again_27 : decode cX0_again 27 = .ok (.getfield 96, 3) := by decide +kernel
theorem dX0_again_30 : decode cX0_again 30 = .ok (.istore 7, 2) := by decide +kernel
theorem dX0_again_32 : decode cX0_again 32 = .ok (.aload_n 0, 1) := by decide +kernel
theorem dX0_again_33 : decode cX0_again 33 = .ok (.iload_n 1, 1) := by decide +kernel
theorem dX0_again_34 : decode cX0_again 34 = .ok (.aload 5, 2) := by decide +kernel
theorem dX0_again_36 : decode cX0_again 36 = .ok (.lload_n 3, 1) := by decide +kernel
theorem dX0_again_37 : decode cX0_again 37 = .ok (.invokevirtual 116, 3) := by decide +kernel
theorem dX0_again_40 : decode cX0_again 40 = .ok (.lstore 8, 2) := by decide +kernel
theorem dX0_again_42 : decode cX0_again 42 = .ok (.aload_n 0, 1) := by decide +kernel
theorem dX0_again_43 : decode cX0_again 43 = .ok (.iload 7, 2) := by decide +kernel
theorem dX0_again_45 : decode cX0_again 45 = .ok (.putfield 96, 3) := by decide +kernel
theorem dX0_again_48 : decode cX0_again 48 = .ok (.lload 8, 2) := by decide +kernel
theorem dX0_again_50 : decode cX0_again 50 = .ok (.lreturn, 1) := by decide +kernel
abbrev cX0_told : ByteArray := prog_1_method_14_code
def yX0_told : MethodName := ⟨RX0, "told", "(I)I"⟩
theorem dX0_told_0 : decode cX0_told 0 = .ok (.iload_n 1, 1) := by decide +kernel
theorem dX0_told_1 : decode cX0_told 1 = .ok (.tableswitch 69 0 5 #[39, 44, 49, 54, 59, 64], 39) := by decide +kernel
theorem dX0_told_40 : decode cX0_told 40 = .ok (.aload_n 0, 1) := by decide +kernel
theorem dX0_told_41 : decode cX0_told 41 = .ok (.getfield 96, 3) := by decide +kernel
theorem dX0_told_44 : decode cX0_told 44 = .ok (.ireturn, 1) := by decide +kernel
theorem dX0_told_45 : decode cX0_told 45 = .ok (.aload_n 0, 1) := by decide +kernel
theorem dX0_told_46 : decode cX0_told 46 = .ok (.getfield 132, 3) := by decide +kernel
theorem dX0_told_49 : decode cX0_told 49 = .ok (.ireturn, 1) := by decide +kernel
theorem dX0_told_50 : decode cX0_told 50 = .ok (.aload_n 0, 1) := by decide +kernel
theorem dX0_told_51 : decode cX0_told 51 = .ok (.getfield 135, 3) := by decide +kernel
theorem dX0_told_54 : decode cX0_told 54 = .ok (.ireturn, 1) := by decide +kernel
theorem dX0_told_55 : decode cX0_told 55 = .ok (.aload_n 0, 1) := by decide +kernel
theorem dX0_told_56 : decode cX0_told 56 = .ok (.getfield 129, 3) := by decide +kernel
theorem dX0_told_59 : decode cX0_told 59 = .ok (.ireturn, 1) := by decide +kernel
theorem dX0_told_60 : decode cX0_told 60 = .ok (.aload_n 0, 1) := by decide +kernel
theorem dX0_told_61 : decode cX0_told 61 = .ok (.getfield 113, 3) := by decide +kernel
theorem dX0_told_64 : decode cX0_told 64 = .ok (.ireturn, 1) := by decide +kernel
theorem dX0_told_65 : decode cX0_told 65 = .ok (.aload_n 0, 1) := by decide +kernel
theorem dX0_told_66 : decode cX0_told 66 = .ok (.getfield 126, 3) := by decide +kernel
theorem dX0_told_69 : decode cX0_told 69 = .ok (.ireturn, 1) := by decide +kernel
theorem dX0_told_70 : decode cX0_told 70 = .ok (.iconst (-1), 1) := by decide +kernel
theorem dX0_told_71 : decode cX0_told 71 = .ok (.ireturn, 1) := by decide +kernel
abbrev cX0_numbers : ByteArray := prog_1_method_15_code
def yX0_numbers : MethodName := ⟨RX0, "numbers", "(I)I"⟩
theorem dX0_numbers_0 : decode cX0_numbers 0 = .ok (.iload_n 1, 1) := by decide +kernel
theorem dX0_numbers_1 : decode cX0_numbers 1 = .ok (.ifCond .lt 9, 3) := by decide +kernel
theorem dX0_numbers_4 : decode cX0_numbers 4 = .ok (.iload_n 1, 1) := by decide +kernel
theorem dX0_numbers_5 : decode cX0_numbers 5 = .ok (.bipush 8, 2) := by decide +kernel
theorem dX0_numbers_7 : decode cX0_numbers 7 = .ok (.if_icmp .lt 5, 3) := by decide +kernel
theorem dX0_numbers_10 : decode cX0_numbers 10 = .ok (.iconst (-1), 1) := by decide +kernel
theorem dX0_numbers_11 : decode cX0_numbers 11 = .ok (.ireturn, 1) := by decide +kernel
theorem dX0_numbers_12 : decode cX0_numbers 12 = .ok (.iconst 0, 1) := by decide +kernel
theorem dX0_numbers_13 : decode cX0_numbers 13 = .ok (.istore_n 2, 1) := by decide +kernel
theorem dX0_numbers_14 : decode cX0_numbers 14 = .ok (.aload_n 0, 1) := by decide +kernel
theorem dX0_numbers_15 : decode cX0_numbers 15 = .ok (.getfield 10, 3) := by decide +kernel
theorem dX0_numbers_18 : decode cX0_numbers 18 = .ok (.invokevirtual 141, 3) := by decide +kernel
theorem dX0_numbers_21 : decode cX0_numbers 21 = .ok (.astore_n 3, 1) := by decide +kernel
theorem dX0_numbers_22 : decode cX0_numbers 22 = .ok (.aload_n 3, 1) := by decide +kernel
theorem dX0_numbers_23 : decode cX0_numbers 23 = .ok (.invokeinterface 145 1, 5) := by decide +kernel
theorem dX0_numbers_28 : decode cX0_numbers 28 = .ok (.ifCond .eq 42, 3) := by decide +kernel
theorem dX0_numbers_31 : decode cX0_numbers 31 = .ok (.aload_n 3, 1) := by decide +kernel
theorem dX0_numbers_32 : decode cX0_numbers 32 = .ok (.invokeinterface 150 1, 5) := by decide +kernel
theorem dX0_numbers_37 : decode cX0_numbers 37 = .ok (.checkcast 38, 3) := by decide +kernel
theorem dX0_numbers_40 : decode cX0_numbers 40 = .ok (.astore 4, 2) := by decide +kernel
theorem dX0_numbers_42 : decode cX0_numbers 42 = .ok (.iload_n 2, 1) := by decide +kernel
theorem dX0_numbers_43 : decode cX0_numbers 43 = .ok (.aload 4, 2) := by decide +kernel
theorem dX0_numbers_45 : decode cX0_numbers 45 = .ok (.getfield 78, 3) := by decide +kernel
theorem dX0_numbers_48 : decode cX0_numbers 48 = .ok (.iload_n 1, 1) := by decide +kernel
theorem dX0_numbers_49 : decode cX0_numbers 49 = .ok (.if_icmp .ne 15, 3) := by decide +kernel
theorem dX0_numbers_52 : decode cX0_numbers 52 = .ok (.aload 4, 2) := by decide +kernel
theorem dX0_numbers_54 : decode cX0_numbers 54 = .ok (.invokevirtual 65, 3) := by decide +kernel
theorem dX0_numbers_57 : decode cX0_numbers 57 = .ok (.ifCond .eq 7, 3) := by decide +kernel
theorem dX0_numbers_60 : decode cX0_numbers 60 = .ok (.iconst 1, 1) := by decide +kernel
theorem dX0_numbers_61 : decode cX0_numbers 61 = .ok (.goto 4, 3) := by decide +kernel
theorem dX0_numbers_64 : decode cX0_numbers 64 = .ok (.iconst 0, 1) := by decide +kernel
theorem dX0_numbers_65 : decode cX0_numbers 65 = .ok (.iadd, 1) := by decide +kernel
theorem dX0_numbers_66 : decode cX0_numbers 66 = .ok (.istore_n 2, 1) := by decide +kernel
theorem dX0_numbers_67 : decode cX0_numbers 67 = .ok (.goto (-45), 3) := by decide +kernel
theorem dX0_numbers_70 : decode cX0_numbers 70 = .ok (.iload_n 2, 1) := by decide +kernel
theorem dX0_numbers_71 : decode cX0_numbers 71 = .ok (.ireturn, 1) := by decide +kernel
theorem q12 : (Jvm.Cond.initialized "MainframeDesk") ∈ lw_all := lw_g (lw_at lw_m1 1 rfl) rfl
theorem q44 : (Jvm.Cond.instantiable "MainframeDesk" (9 : Nat)) ∈ lw_all := lw_g (lw_at lw_m1 33 rfl) rfl
theorem q46 : (Jvm.Cond.instanceMethod ({ cls := "MainframeDesk", name := "<init>", desc := "()V" } : Jvm.MethodName)) ∈ lw_all := lw_g (lw_at lw_m1 35 rfl) rfl
theorem q47 : (Jvm.Cond.code ({ cls := "MainframeDesk", name := "<init>", desc := "()V" } : Jvm.MethodName) prog_1_method_1_code (2 : Nat) (Option.none : Option Jvm.ClassFile.FieldType)) ∈ lw_all := lw_g (lw_at lw_m1 36 rfl) rfl
theorem q48 : (Jvm.Cond.methodLink "MainframeDesk" (1 : Nat) ({ cls := "java/lang/Object", name := "<init>", desc := "()V" } : Jvm.MethodName)) ∈ lw_all := lw_g (lw_at lw_m1 37 rfl) rfl
theorem q51 : (Jvm.Cond.classLink "MainframeDesk" (7 : Nat) "java/util/ArrayList") ∈ lw_all := lw_g (lw_at lw_m1 40 rfl) rfl
theorem q53 : (Jvm.Cond.methodLink "MainframeDesk" (9 : Nat) ({ cls := "java/util/ArrayList", name := "<init>", desc := "()V" } : Jvm.MethodName)) ∈ lw_all := lw_g (lw_at lw_m1 42 rfl) rfl
theorem q80 : (Jvm.Cond.classLink "MainframeDesk" (19 : Nat) "MainframeDesk$Part") ∈ lw_all := lw_g (lw_at lw_m1 69 rfl) rfl
theorem q82 : (Jvm.Cond.methodLink "MainframeDesk" (25 : Nat) ({ cls := "java/util/ArrayList", name := "add", desc := "(Ljava/lang/Object;)Z" } : Jvm.MethodName)) ∈ lw_all := lw_g (lw_at lw_m1 71 rfl) rfl
theorem q114 : (Jvm.Cond.selects "MainframeDesk" ({ cls := "java/lang/Object", name := "getClass", desc := "()Ljava/lang/Class;" } : Jvm.MethodName) ({ cls := "java/lang/Object", name := "getClass", desc := "()Ljava/lang/Class;" } : Jvm.MethodName)) ∈ lw_all := lw_g (lw_at lw_m1 103 rfl) rfl
theorem q144 : (Jvm.Cond.methodLinkNest "MainframeDesk" (29 : Nat) ({ cls := "MainframeDesk$Part", name := "<init>", desc := "()V" } : Jvm.MethodName) "MainframeDesk") ∈ lw_tbl := lw_at lw_m1 133 rfl
theorem q149 : (Jvm.Cond.fieldLinkNest "MainframeDesk" (50 : Nat) "MainframeDesk$Part" "answer" "J" "MainframeDesk") ∈ lw_tbl := lw_at lw_m1 138 rfl
theorem q151 : (Jvm.Cond.fieldLinkNest "MainframeDesk" (54 : Nat) "MainframeDesk$Part" "failure" "I" "MainframeDesk") ∈ lw_tbl := lw_at lw_m1 140 rfl
theorem q157 : (Jvm.Cond.fieldLink "MainframeDesk" (10 : Nat) "MainframeDesk" "things" "Ljava/util/ArrayList;") ∈ lw_all := lw_g (lw_at lw_m1 146 rfl) rfl
theorem q158 : (Jvm.Cond.fieldLink "MainframeDesk" (16 : Nat) "MainframeDesk" "rows" "Ljava/util/ArrayList;") ∈ lw_all := lw_g (lw_at lw_m1 147 rfl) rfl
theorem q159 : (Jvm.Cond.fieldLink "MainframeDesk" (21 : Nat) "MainframeDesk" "parts" "[LMainframeDesk$Part;") ∈ lw_all := lw_g (lw_at lw_m1 148 rfl) rfl
theorem q160 : (Jvm.Cond.fieldLink "MainframeDesk" (96 : Nat) "MainframeDesk" "failure" "I") ∈ lw_all := lw_g (lw_at lw_m1 149 rfl) rfl
theorem q161 : (Jvm.Cond.fieldLink "MainframeDesk" (132 : Nat) "MainframeDesk" "failedCall" "I") ∈ lw_all := lw_g (lw_at lw_m1 150 rfl) rfl
theorem q162 : (Jvm.Cond.fieldLink "MainframeDesk" (135 : Nat) "MainframeDesk" "failedThing" "I") ∈ lw_all := lw_g (lw_at lw_m1 151 rfl) rfl
theorem q163 : (Jvm.Cond.fieldLink "MainframeDesk" (129 : Nat) "MainframeDesk" "failures" "I") ∈ lw_all := lw_g (lw_at lw_m1 152 rfl) rfl
theorem q164 : (Jvm.Cond.fieldLink "MainframeDesk" (113 : Nat) "MainframeDesk" "refusals" "I") ∈ lw_all := lw_g (lw_at lw_m1 153 rfl) rfl
theorem q165 : (Jvm.Cond.fieldLink "MainframeDesk" (126 : Nat) "MainframeDesk" "answers" "I") ∈ lw_all := lw_g (lw_at lw_m1 154 rfl) rfl
theorem q166 : (Jvm.Cond.laysFinal "MainframeDesk" "MainframeDesk" "things" "Ljava/util/ArrayList;") ∈ lw_all := lw_g (lw_at lw_m1 155 rfl) rfl
theorem q167 : (Jvm.Cond.soleField "MainframeDesk" "things") ∈ lw_all := lw_g (lw_at lw_m1 156 rfl) rfl
theorem q168 : (Jvm.Cond.laysFinal "MainframeDesk" "MainframeDesk" "rows" "Ljava/util/ArrayList;") ∈ lw_all := lw_g (lw_at lw_m1 157 rfl) rfl
theorem q169 : (Jvm.Cond.soleField "MainframeDesk" "rows") ∈ lw_all := lw_g (lw_at lw_m1 158 rfl) rfl
theorem q170 : (Jvm.Cond.laysFinal "MainframeDesk" "MainframeDesk" "parts" "[LMainframeDesk$Part;") ∈ lw_all := lw_g (lw_at lw_m1 159 rfl) rfl
theorem q171 : (Jvm.Cond.soleField "MainframeDesk" "parts") ∈ lw_all := lw_g (lw_at lw_m1 160 rfl) rfl
theorem q172 : (Jvm.Cond.lays "MainframeDesk" "MainframeDesk" "failure" "I") ∈ lw_all := lw_g (lw_at lw_m1 161 rfl) rfl
theorem q173 : (Jvm.Cond.soleField "MainframeDesk" "failure") ∈ lw_all := lw_g (lw_at lw_m1 162 rfl) rfl
theorem q174 : (Jvm.Cond.lays "MainframeDesk" "MainframeDesk" "failedCall" "I") ∈ lw_all := lw_g (lw_at lw_m1 163 rfl) rfl
theorem q175 : (Jvm.Cond.soleField "MainframeDesk" "failedCall") ∈ lw_all := lw_g (lw_at lw_m1 164 rfl) rfl
theorem q176 : (Jvm.Cond.lays "MainframeDesk" "MainframeDesk" "failedThing" "I") ∈ lw_all := lw_g (lw_at lw_m1 165 rfl) rfl
theorem q177 : (Jvm.Cond.soleField "MainframeDesk" "failedThing") ∈ lw_all := lw_g (lw_at lw_m1 166 rfl) rfl
theorem q178 : (Jvm.Cond.lays "MainframeDesk" "MainframeDesk" "failures" "I") ∈ lw_all := lw_g (lw_at lw_m1 167 rfl) rfl
theorem q179 : (Jvm.Cond.soleField "MainframeDesk" "failures") ∈ lw_all := lw_g (lw_at lw_m1 168 rfl) rfl
theorem q180 : (Jvm.Cond.lays "MainframeDesk" "MainframeDesk" "refusals" "I") ∈ lw_all := lw_g (lw_at lw_m1 169 rfl) rfl
theorem q181 : (Jvm.Cond.soleField "MainframeDesk" "refusals") ∈ lw_all := lw_g (lw_at lw_m1 170 rfl) rfl
theorem q182 : (Jvm.Cond.lays "MainframeDesk" "MainframeDesk" "answers" "I") ∈ lw_all := lw_g (lw_at lw_m1 171 rfl) rfl
theorem q183 : (Jvm.Cond.soleField "MainframeDesk" "answers") ∈ lw_all := lw_g (lw_at lw_m1 172 rfl) rfl
theorem q184 : (Jvm.Cond.superclass "MainframeDesk" "java/lang/Object") ∈ lw_all := lw_g (lw_at lw_m1 173 rfl) rfl
theorem q186 : (Jvm.Cond.instanceMethod ({ cls := "MainframeDesk", name := "collect", desc := "(IJ)I" } : Jvm.MethodName)) ∈ lw_all := lw_g (lw_at lw_m1 175 rfl) rfl
theorem q187 : (Jvm.Cond.selects "MainframeDesk" ({ cls := "MainframeDesk", name := "collect", desc := "(IJ)I" } : Jvm.MethodName) ({ cls := "MainframeDesk", name := "collect", desc := "(IJ)I" } : Jvm.MethodName)) ∈ lw_all := lw_g (lw_at lw_m1 176 rfl) rfl
theorem q188 : (Jvm.Cond.code ({ cls := "MainframeDesk", name := "collect", desc := "(IJ)I" } : Jvm.MethodName) prog_1_method_4_code (4 : Nat) (Option.some Jvm.ClassFile.FieldType.int)) ∈ lw_all := lw_g (lw_at lw_m1 177 rfl) rfl
theorem q189 : (Jvm.Cond.methodLink "MainframeDesk" (34 : Nat) ({ cls := "java/util/ArrayList", name := "get", desc := "(I)Ljava/lang/Object;" } : Jvm.MethodName)) ∈ lw_all := lw_g (lw_at lw_m1 178 rfl) rfl
theorem q203 : (Jvm.Cond.methodLink "MainframeDesk" (30 : Nat) ({ cls := "java/util/ArrayList", name := "size", desc := "()I" } : Jvm.MethodName)) ∈ lw_all := lw_g (lw_at lw_m1 192 rfl) rfl
theorem q207 : (Jvm.Cond.methodLink "MainframeDesk" (40 : Nat) ({ cls := "java/lang/Long", name := "valueOf", desc := "(J)Ljava/lang/Long;" } : Jvm.MethodName)) ∈ lw_all := lw_g (lw_at lw_m1 196 rfl) rfl
theorem q228 : (Jvm.Cond.instanceMethod ({ cls := "MainframeDesk", name := "answer", desc := "(IJ)I" } : Jvm.MethodName)) ∈ lw_all := lw_g (lw_at lw_m1 217 rfl) rfl
theorem q229 : (Jvm.Cond.selects "MainframeDesk" ({ cls := "MainframeDesk", name := "answer", desc := "(IJ)I" } : Jvm.MethodName) ({ cls := "MainframeDesk", name := "answer", desc := "(IJ)I" } : Jvm.MethodName)) ∈ lw_all := lw_g (lw_at lw_m1 218 rfl) rfl
theorem q230 : (Jvm.Cond.code ({ cls := "MainframeDesk", name := "answer", desc := "(IJ)I" } : Jvm.MethodName) prog_1_method_5_code (4 : Nat) (Option.some Jvm.ClassFile.FieldType.int)) ∈ lw_all := lw_g (lw_at lw_m1 219 rfl) rfl
theorem q231 : (Jvm.Cond.methodLink "MainframeDesk" (46 : Nat) ({ cls := "MainframeDesk", name := "isCall", desc := "(I)Z" } : Jvm.MethodName)) ∈ lw_all := lw_g (lw_at lw_m1 220 rfl) rfl
theorem q232 : (Jvm.Cond.static ({ cls := "MainframeDesk", name := "isCall", desc := "(I)Z" } : Jvm.MethodName)) ∈ lw_all := lw_g (lw_at lw_m1 221 rfl) rfl
theorem q233 : (Jvm.Cond.code ({ cls := "MainframeDesk", name := "isCall", desc := "(I)Z" } : Jvm.MethodName) prog_1_method_3_code (1 : Nat) (Option.some Jvm.ClassFile.FieldType.boolean)) ∈ lw_all := lw_g (lw_at lw_m1 222 rfl) rfl
theorem q235 : (Jvm.Cond.instanceMethod ({ cls := "MainframeDesk", name := "fails", desc := "(II)I" } : Jvm.MethodName)) ∈ lw_all := lw_g (lw_at lw_m1 224 rfl) rfl
theorem q236 : (Jvm.Cond.selects "MainframeDesk" ({ cls := "MainframeDesk", name := "fails", desc := "(II)I" } : Jvm.MethodName) ({ cls := "MainframeDesk", name := "fails", desc := "(II)I" } : Jvm.MethodName)) ∈ lw_all := lw_g (lw_at lw_m1 225 rfl) rfl
theorem q237 : (Jvm.Cond.code ({ cls := "MainframeDesk", name := "fails", desc := "(II)I" } : Jvm.MethodName) prog_1_method_6_code (4 : Nat) (Option.some Jvm.ClassFile.FieldType.int)) ∈ lw_all := lw_g (lw_at lw_m1 226 rfl) rfl
theorem q239 : (Jvm.Cond.instanceMethod ({ cls := "MainframeDesk", name := "make", desc := "(I)I" } : Jvm.MethodName)) ∈ lw_all := lw_g (lw_at lw_m1 228 rfl) rfl
theorem q240 : (Jvm.Cond.selects "MainframeDesk" ({ cls := "MainframeDesk", name := "make", desc := "(I)I" } : Jvm.MethodName) ({ cls := "MainframeDesk", name := "make", desc := "(I)I" } : Jvm.MethodName)) ∈ lw_all := lw_g (lw_at lw_m1 229 rfl) rfl
theorem q241 : (Jvm.Cond.code ({ cls := "MainframeDesk", name := "make", desc := "(I)I" } : Jvm.MethodName) prog_1_method_7_code (2 : Nat) (Option.some Jvm.ClassFile.FieldType.int)) ∈ lw_all := lw_g (lw_at lw_m1 230 rfl) rfl
theorem q242 : (Jvm.Cond.classLink "MainframeDesk" (38 : Nat) "MainframeDesk$Thing") ∈ lw_all := lw_g (lw_at lw_m1 231 rfl) rfl
theorem q244 : (Jvm.Cond.methodLink "MainframeDesk" (58 : Nat) ({ cls := "MainframeDesk$Thing", name := "<init>", desc := "(I)V" } : Jvm.MethodName)) ∈ lw_all := lw_g (lw_at lw_m1 233 rfl) rfl
theorem q252 : (Jvm.Cond.fieldLinkNest "MainframeDesk" (78 : Nat) "MainframeDesk$Thing" "kind" "I" "MainframeDesk") ∈ lw_tbl := lw_at lw_m2 1 rfl
theorem q254 : (Jvm.Cond.fieldLinkNest "MainframeDesk" (75 : Nat) "MainframeDesk$Thing" "state" "LMainframeDesk$State;" "MainframeDesk") ∈ lw_tbl := lw_at lw_m2 3 rfl
theorem q256 : (Jvm.Cond.fieldLinkNest "MainframeDesk" (123 : Nat) "MainframeDesk$Thing" "calls" "I" "MainframeDesk") ∈ lw_tbl := lw_at lw_m2 5 rfl
theorem q265 : (Jvm.Cond.instanceMethod ({ cls := "MainframeDesk", name := "drop", desc := "(I)Z" } : Jvm.MethodName)) ∈ lw_all := lw_g (lw_at lw_m2 14 rfl) rfl
theorem q266 : (Jvm.Cond.selects "MainframeDesk" ({ cls := "MainframeDesk", name := "drop", desc := "(I)Z" } : Jvm.MethodName) ({ cls := "MainframeDesk", name := "drop", desc := "(I)Z" } : Jvm.MethodName)) ∈ lw_all := lw_g (lw_at lw_m2 15 rfl) rfl
theorem q267 : (Jvm.Cond.code ({ cls := "MainframeDesk", name := "drop", desc := "(I)Z" } : Jvm.MethodName) prog_1_method_8_code (3 : Nat) (Option.some Jvm.ClassFile.FieldType.boolean)) ∈ lw_all := lw_g (lw_at lw_m2 16 rfl) rfl
theorem q268 : (Jvm.Cond.methodLink "MainframeDesk" (61 : Nat) ({ cls := "MainframeDesk", name := "find", desc := "(I)LMainframeDesk$Thing;" } : Jvm.MethodName)) ∈ lw_all := lw_g (lw_at lw_m2 17 rfl) rfl
theorem q269 : (Jvm.Cond.privateMethod ({ cls := "MainframeDesk", name := "find", desc := "(I)LMainframeDesk$Thing;" } : Jvm.MethodName)) ∈ lw_tbl := lw_at lw_m2 18 rfl
theorem q270 : (Jvm.Cond.instanceMethod ({ cls := "MainframeDesk", name := "find", desc := "(I)LMainframeDesk$Thing;" } : Jvm.MethodName)) ∈ lw_all := lw_g (lw_at lw_m2 19 rfl) rfl
theorem q271 : (Jvm.Cond.code ({ cls := "MainframeDesk", name := "find", desc := "(I)LMainframeDesk$Thing;" } : Jvm.MethodName) prog_1_method_2_code (2 : Nat) (Option.some (Jvm.ClassFile.FieldType.object "MainframeDesk$Thing"))) ∈ lw_all := lw_g (lw_at lw_m2 20 rfl) rfl
theorem q272 : (Jvm.Cond.methodLink "MainframeDesk" (65 : Nat) ({ cls := "MainframeDesk$Thing", name := "isThere", desc := "()Z" } : Jvm.MethodName)) ∈ lw_all := lw_g (lw_at lw_m2 21 rfl) rfl
theorem q276 : (Jvm.Cond.fieldLink "MainframeDesk" (69 : Nat) "MainframeDesk$State" "DROPPED" "LMainframeDesk$State;") ∈ lw_all := lw_g (lw_at lw_m2 25 rfl) rfl
theorem q279 : (Jvm.Cond.instanceMethod ({ cls := "MainframeDesk", name := "call", desc := "(IIJ)J" } : Jvm.MethodName)) ∈ lw_all := lw_g (lw_at lw_m2 28 rfl) rfl
theorem q280 : (Jvm.Cond.selects "MainframeDesk" ({ cls := "MainframeDesk", name := "call", desc := "(IIJ)J" } : Jvm.MethodName) ({ cls := "MainframeDesk", name := "call", desc := "(IIJ)J" } : Jvm.MethodName)) ∈ lw_all := lw_g (lw_at lw_m2 29 rfl) rfl
theorem q281 : (Jvm.Cond.code ({ cls := "MainframeDesk", name := "call", desc := "(IIJ)J" } : Jvm.MethodName) prog_1_method_12_code (10 : Nat) (Option.some Jvm.ClassFile.FieldType.long)) ∈ lw_all := lw_g (lw_at lw_m2 30 rfl) rfl
theorem q282 : (Jvm.Cond.methodLink "MainframeDesk" (109 : Nat) ({ cls := "MainframeDesk", name := "refusal", desc := "(ILMainframeDesk$Thing;J)I" } : Jvm.MethodName)) ∈ lw_all := lw_g (lw_at lw_m2 31 rfl) rfl
theorem q283 : (Jvm.Cond.privateMethod ({ cls := "MainframeDesk", name := "refusal", desc := "(ILMainframeDesk$Thing;J)I" } : Jvm.MethodName)) ∈ lw_tbl := lw_at lw_m2 32 rfl
theorem q284 : (Jvm.Cond.instanceMethod ({ cls := "MainframeDesk", name := "refusal", desc := "(ILMainframeDesk$Thing;J)I" } : Jvm.MethodName)) ∈ lw_all := lw_g (lw_at lw_m2 33 rfl) rfl
theorem q285 : (Jvm.Cond.code ({ cls := "MainframeDesk", name := "refusal", desc := "(ILMainframeDesk$Thing;J)I" } : Jvm.MethodName) prog_1_method_9_code (5 : Nat) (Option.some Jvm.ClassFile.FieldType.int)) ∈ lw_all := lw_g (lw_at lw_m2 34 rfl) rfl
theorem q286 : (Jvm.Cond.constantLong "MainframeDesk" (81 : Nat) (1000000 : Int64)) ∈ lw_all := lw_g (lw_at lw_m2 35 rfl) rfl
theorem q287 : (Jvm.Cond.methodLink "MainframeDesk" (83 : Nat) ({ cls := "java/util/ArrayList", name := "isEmpty", desc := "()Z" } : Jvm.MethodName)) ∈ lw_all := lw_g (lw_at lw_m2 36 rfl) rfl
theorem q291 : (Jvm.Cond.methodLink "MainframeDesk" (116 : Nat) ({ cls := "MainframeDesk", name := "tried", desc := "(ILMainframeDesk$Thing;J)J" } : Jvm.MethodName)) ∈ lw_all := lw_g (lw_at lw_m2 40 rfl) rfl
theorem q292 : (Jvm.Cond.privateMethod ({ cls := "MainframeDesk", name := "tried", desc := "(ILMainframeDesk$Thing;J)J" } : Jvm.MethodName)) ∈ lw_tbl := lw_at lw_m2 41 rfl
theorem q293 : (Jvm.Cond.instanceMethod ({ cls := "MainframeDesk", name := "tried", desc := "(ILMainframeDesk$Thing;J)J" } : Jvm.MethodName)) ∈ lw_all := lw_g (lw_at lw_m2 42 rfl) rfl
theorem q294 : (Jvm.Cond.codeWith ({ cls := "MainframeDesk", name := "tried", desc := "(ILMainframeDesk$Thing;J)J" } : Jvm.MethodName) prog_1_method_11_code (6 : Nat) (Option.some Jvm.ClassFile.FieldType.long) [((0 : Nat), (16 : Nat), (17 : Nat), (94 : Nat)), ((0 : Nat), (16 : Nat), (27 : Nat), (97 : Nat)), ((0 : Nat), (16 : Nat), (37 : Nat), (99 : Nat)), ((0 : Nat), (16 : Nat), (47 : Nat), (101 : Nat)), ((0 : Nat), (16 : Nat), (57 : Nat), (103 : Nat)), ((0 : Nat), (16 : Nat), (67 : Nat), (105 : Nat))]) ∈ lw_all := lw_g (lw_at lw_m2 43 rfl) rfl
theorem q295 : (Jvm.Cond.classLink "MainframeDesk" (94 : Nat) "java/lang/ArithmeticException") ∈ lw_all := lw_g (lw_at lw_m2 44 rfl) rfl
theorem q369 : (Jvm.Cond.classLink "MainframeDesk" (97 : Nat) "java/lang/ArrayIndexOutOfBoundsException") ∈ lw_all := lw_g (lw_at lw_m2 118 rfl) rfl
theorem q388 : (Jvm.Cond.classLink "MainframeDesk" (99 : Nat) "java/lang/NegativeArraySizeException") ∈ lw_all := lw_g (lw_at lw_m2 137 rfl) rfl
theorem q402 : (Jvm.Cond.classLink "MainframeDesk" (101 : Nat) "java/lang/IllegalStateException") ∈ lw_all := lw_g (lw_at lw_m2 151 rfl) rfl
theorem q403 : (Jvm.Cond.classLink "MainframeDesk" (103 : Nat) "java/lang/IllegalArgumentException") ∈ lw_all := lw_g (lw_at lw_m2 152 rfl) rfl
theorem q404 : (Jvm.Cond.classLink "MainframeDesk" (105 : Nat) "java/lang/UnsupportedOperationException") ∈ lw_all := lw_g (lw_at lw_m2 153 rfl) rfl
theorem q405 : (Jvm.Cond.methodLink "MainframeDesk" (86 : Nat) ({ cls := "MainframeDesk", name := "rowOf", desc := "(I)Ljava/util/ArrayList;" } : Jvm.MethodName)) ∈ lw_all := lw_g (lw_at lw_m2 154 rfl) rfl
theorem q406 : (Jvm.Cond.privateMethod ({ cls := "MainframeDesk", name := "rowOf", desc := "(I)Ljava/util/ArrayList;" } : Jvm.MethodName)) ∈ lw_tbl := lw_at lw_m2 155 rfl
theorem q407 : (Jvm.Cond.instanceMethod ({ cls := "MainframeDesk", name := "rowOf", desc := "(I)Ljava/util/ArrayList;" } : Jvm.MethodName)) ∈ lw_all := lw_g (lw_at lw_m2 156 rfl) rfl
theorem q408 : (Jvm.Cond.code ({ cls := "MainframeDesk", name := "rowOf", desc := "(I)Ljava/util/ArrayList;" } : Jvm.MethodName) prog_1_method_10_code (2 : Nat) (Option.some (Jvm.ClassFile.FieldType.object "java/util/ArrayList"))) ∈ lw_all := lw_g (lw_at lw_m2 157 rfl) rfl
theorem q409 : (Jvm.Cond.methodLink "MainframeDesk" (90 : Nat) ({ cls := "MainframeDesk$Part", name := "done", desc := "(LMainframeDesk$Thing;JLjava/util/ArrayList;)J" } : Jvm.MethodName)) ∈ lw_all := lw_g (lw_at lw_m2 158 rfl) rfl
theorem q525 : (Jvm.Cond.constantLong "MainframeDesk" (107 : Nat) (-10 : Int64)) ∈ lw_all := lw_g (lw_at lw_m3 34 rfl) rfl
theorem q526 : (Jvm.Cond.methodLink "MainframeDesk" (120 : Nat) ({ cls := "java/util/ArrayList", name := "clear", desc := "()V" } : Jvm.MethodName)) ∈ lw_all := lw_g (lw_at lw_m3 35 rfl) rfl
theorem q530 : (Jvm.Cond.fieldLink "MainframeDesk" (138 : Nat) "MainframeDesk$State" "ENDED" "LMainframeDesk$State;") ∈ lw_all := lw_g (lw_at lw_m3 39 rfl) rfl
theorem q533 : (Jvm.Cond.instanceMethod ({ cls := "MainframeDesk", name := "again", desc := "(IIJ)J" } : Jvm.MethodName)) ∈ lw_all := lw_g (lw_at lw_m3 42 rfl) rfl
theorem q534 : (Jvm.Cond.selects "MainframeDesk" ({ cls := "MainframeDesk", name := "again", desc := "(IIJ)J" } : Jvm.MethodName) ({ cls := "MainframeDesk", name := "again", desc := "(IIJ)J" } : Jvm.MethodName)) ∈ lw_all := lw_g (lw_at lw_m3 43 rfl) rfl
theorem q535 : (Jvm.Cond.code ({ cls := "MainframeDesk", name := "again", desc := "(IIJ)J" } : Jvm.MethodName) prog_1_method_13_code (10 : Nat) (Option.some Jvm.ClassFile.FieldType.long)) ∈ lw_all := lw_g (lw_at lw_m3 44 rfl) rfl
theorem q537 : (Jvm.Cond.instanceMethod ({ cls := "MainframeDesk", name := "told", desc := "(I)I" } : Jvm.MethodName)) ∈ lw_all := lw_g (lw_at lw_m3 46 rfl) rfl
theorem q538 : (Jvm.Cond.selects "MainframeDesk" ({ cls := "MainframeDesk", name := "told", desc := "(I)I" } : Jvm.MethodName) ({ cls := "MainframeDesk", name := "told", desc := "(I)I" } : Jvm.MethodName)) ∈ lw_all := lw_g (lw_at lw_m3 47 rfl) rfl
theorem q539 : (Jvm.Cond.code ({ cls := "MainframeDesk", name := "told", desc := "(I)I" } : Jvm.MethodName) prog_1_method_14_code (2 : Nat) (Option.some Jvm.ClassFile.FieldType.int)) ∈ lw_all := lw_g (lw_at lw_m3 48 rfl) rfl
theorem q541 : (Jvm.Cond.instanceMethod ({ cls := "MainframeDesk", name := "numbers", desc := "(I)I" } : Jvm.MethodName)) ∈ lw_all := lw_g (lw_at lw_m3 50 rfl) rfl
theorem q542 : (Jvm.Cond.selects "MainframeDesk" ({ cls := "MainframeDesk", name := "numbers", desc := "(I)I" } : Jvm.MethodName) ({ cls := "MainframeDesk", name := "numbers", desc := "(I)I" } : Jvm.MethodName)) ∈ lw_all := lw_g (lw_at lw_m3 51 rfl) rfl
theorem q543 : (Jvm.Cond.code ({ cls := "MainframeDesk", name := "numbers", desc := "(I)I" } : Jvm.MethodName) prog_1_method_15_code (5 : Nat) (Option.some Jvm.ClassFile.FieldType.int)) ∈ lw_all := lw_g (lw_at lw_m3 52 rfl) rfl
theorem q544 : (Jvm.Cond.methodLink "MainframeDesk" (141 : Nat) ({ cls := "java/util/ArrayList", name := "iterator", desc := "()Ljava/util/Iterator;" } : Jvm.MethodName)) ∈ lw_all := lw_g (lw_at lw_m3 53 rfl) rfl
theorem q545 : (Jvm.Cond.interfaceEntry "MainframeDesk" (145 : Nat)) ∈ lw_tbl := lw_at lw_m3 54 rfl
theorem q546 : (Jvm.Cond.methodLink "MainframeDesk" (145 : Nat) ({ cls := "java/util/Iterator", name := "hasNext", desc := "()Z" } : Jvm.MethodName)) ∈ lw_all := lw_g (lw_at lw_m3 55 rfl) rfl
theorem q547 : (Jvm.Cond.interfaceEntry "MainframeDesk" (150 : Nat)) ∈ lw_tbl := lw_at lw_m3 56 rfl
theorem q548 : (Jvm.Cond.methodLink "MainframeDesk" (150 : Nat) ({ cls := "java/util/Iterator", name := "next", desc := "()Ljava/lang/Object;" } : Jvm.MethodName)) ∈ lw_all := lw_g (lw_at lw_m3 57 rfl) rfl
theorem q661 : (Jvm.Cond.castable "MainframeDesk" "java/lang/Object") ∈ lw_tbl := lw_at lw_m3 170 rfl
theorem in_X0 : ∀ w ∈ wsX00, w ∈ lw_all := lw_in wsX00 [166, 168, 170, 172, 174, 176, 178, 180, 182] (by decide +kernel) (by decide +kernel)
end
section
/-! MainframeDeskModel -/
set_option maxRecDepth 100000
def RX2 : String := "MainframeDeskModel"
def TX2 : u_T := fun k => match k with
  | 0 => ("MainframeDeskModel", "sum", "[J", true)
  | 1 => ("MainframeDeskModel", "many", "[I", true)
  | 2 => ("MainframeDeskModel", "answers", "[J", true)
  | 3 => ("MainframeDeskModel", "failures", "[I", true)
  | 4 => ("MainframeDeskModel", "kind", "[I", true)
  | 5 => ("MainframeDeskModel", "there", "[Z", true)
  | 6 => ("MainframeDeskModel", "answered", "[J", true)
  | 7 => ("MainframeDeskModel", "made", "I", false)
  | 8 => ("MainframeDeskModel", "thrown", "I", false)
  | 9 => ("MainframeDeskModel", "latest", "I", false)
  | 10 => ("MainframeDeskModel", "latestCall", "I", false)
  | 11 => ("MainframeDeskModel", "latestThing", "I", false)
  | 12 => ("MainframeDeskModel", "failed", "I", false)
  | 13 => ("MainframeDeskModel", "refused", "I", false)
  | 14 => ("MainframeDeskModel", "done", "I", false)
  | _ => ("MainframeDeskModel", "way", "I", false)
def tyX2 : Nat → FieldType := fun k => match k with
  | 0 => .array .long
  | 1 => .array .int
  | 2 => .array .long
  | 3 => .array .int
  | 4 => .array .int
  | 5 => .array .boolean
  | 6 => .array .long
  | 7 => .int
  | 8 => .int
  | 9 => .int
  | 10 => .int
  | 11 => .int
  | 12 => .int
  | 13 => .int
  | 14 => .int
  | _ => .int
abbrev wsX20 : List Cond := u_ws RX2 TX2 16
set_option maxRecDepth 100000 in
theorem nmX2 : ∀ a, a < 16 → ∀ b, b < 16 → a ≠ b → (TX2 a).2.1 ≠ (TX2 b).2.1 := by decide +kernel
set_option maxRecDepth 100000 in
theorem tyX2_ok : ∀ k, k < 16 → parseFieldDescriptor (TX2 k).2.2.1 = some (tyX2 k) := by decide +kernel
abbrev cX2_init : ByteArray := prog_7_method_1_code
def yX2_init : MethodName := ⟨RX2, "<init>", "()V"⟩
theorem dX2_init_0 : decode cX2_init 0 = .ok (.aload_n 0, 1) := by decide +kernel
theorem dX2_init_1 : decode cX2_init 1 = .ok (.invokespecial 1, 3) := by decide +kernel
theorem dX2_init_4 : decode cX2_init 4 = .ok (.aload_n 0, 1) := by decide +kernel
theorem dX2_init_5 : decode cX2_init 5 = .ok (.iconst 4, 1) := by decide +kernel
theorem dX2_init_6 : decode cX2_init 6 = .ok (.newarray .long, 2) := by decide +kernel
theorem dX2_init_8 : decode cX2_init 8 = .ok (.putfield 7, 3) := by decide +kernel
theorem dX2_init_11 : decode cX2_init 11 = .ok (.aload_n 0, 1) := by decide +kernel
theorem dX2_init_12 : decode cX2_init 12 = .ok (.iconst 4, 1) := by decide +kernel
theorem dX2_init_13 : decode cX2_init 13 = .ok (.newarray .int, 2) := by decide +kernel
theorem dX2_init_15 : decode cX2_init 15 = .ok (.putfield 13, 3) := by decide +kernel
theorem dX2_init_18 : decode cX2_init 18 = .ok (.aload_n 0, 1) := by decide +kernel
theorem dX2_init_19 : decode cX2_init 19 = .ok (.bipush 32, 2) := by decide +kernel
theorem dX2_init_21 : decode cX2_init 21 = .ok (.newarray .long, 2) := by decide +kernel
theorem dX2_init_23 : decode cX2_init 23 = .ok (.putfield 17, 3) := by decide +kernel
theorem dX2_init_26 : decode cX2_init 26 = .ok (.aload_n 0, 1) := by decide +kernel
theorem dX2_init_27 : decode cX2_init 27 = .ok (.bipush 32, 2) := by decide +kernel
theorem dX2_init_29 : decode cX2_init 29 = .ok (.newarray .int, 2) := by decide +kernel
theorem dX2_init_31 : decode cX2_init 31 = .ok (.putfield 20, 3) := by decide +kernel
theorem dX2_init_34 : decode cX2_init 34 = .ok (.aload_n 0, 1) := by decide +kernel
theorem dX2_init_35 : decode cX2_init 35 = .ok (.sipush 200, 3) := by decide +kernel
theorem dX2_init_38 : decode cX2_init 38 = .ok (.newarray .int, 2) := by decide +kernel
theorem dX2_init_40 : decode cX2_init 40 = .ok (.putfield 23, 3) := by decide +kernel
theorem dX2_init_43 : decode cX2_init 43 = .ok (.aload_n 0, 1) := by decide +kernel
theorem dX2_init_44 : decode cX2_init 44 = .ok (.sipush 200, 3) := by decide +kernel
theorem dX2_init_47 : decode cX2_init 47 = .ok (.newarray .boolean, 2) := by decide +kernel
theorem dX2_init_49 : decode cX2_init 49 = .ok (.putfield 26, 3) := by decide +kernel
theorem dX2_init_52 : decode cX2_init 52 = .ok (.aload_n 0, 1) := by decide +kernel
theorem dX2_init_53 : decode cX2_init 53 = .ok (.sipush 200, 3) := by decide +kernel
theorem dX2_init_56 : decode cX2_init 56 = .ok (.newarray .long, 2) := by decide +kernel
theorem dX2_init_58 : decode cX2_init 58 = .ok (.putfield 30, 3) := by decide +kernel
theorem dX2_init_61 : decode cX2_init 61 = .ok (.return_, 1) := by decide +kernel
abbrev cX2_collect : ByteArray := prog_7_method_4_code
def yX2_collect : MethodName := ⟨RX2, "collect", "(IJ)I"⟩
theorem dX2_collect_0 : decode cX2_collect 0 = .ok (.aload_n 0, 1) := by decide +kernel
theorem dX2_collect_1 : decode cX2_collect 1 = .ok (.iconst 0, 1) := by decide +kernel
theorem dX2_collect_2 : decode cX2_collect 2 = .ok (.putfield 33, 3) := by decide +kernel
theorem dX2_collect_5 : decode cX2_collect 5 = .ok (.iload_n 1, 1) := by decide +kernel
theorem dX2_collect_6 : decode cX2_collect 6 = .ok (.iconst 4, 1) := by decide +kernel
theorem dX2_collect_7 : decode cX2_collect 7 = .ok (.invokestatic 37, 3) := by decide +kernel
theorem dX2_collect_10 : decode cX2_collect 10 = .ok (.ifCond .eq 14, 3) := by decide +kernel
theorem dX2_collect_13 : decode cX2_collect 13 = .ok (.aload_n 0, 1) := by decide +kernel
theorem dX2_collect_14 : decode cX2_collect 14 = .ok (.getfield 13, 3) := by decide +kernel
theorem dX2_collect_17 : decode cX2_collect 17 = .ok (.iload_n 1, 1) := by decide +kernel
theorem dX2_collect_18 : decode cX2_collect 18 = .ok (.iaload, 1) := by decide +kernel
theorem dX2_collect_19 : decode cX2_collect 19 = .ok (.bipush 50, 2) := by decide +kernel
theorem dX2_collect_21 : decode cX2_collect 21 = .ok (.if_icmp .ne 5, 3) := by decide +kernel
theorem dX2_collect_24 : decode cX2_collect 24 = .ok (.iconst (-1), 1) := by decide +kernel
theorem dX2_collect_25 : decode cX2_collect 25 = .ok (.ireturn, 1) := by decide +kernel
theorem dX2_collect_26 : decode cX2_collect 26 = .ok (.aload_n 0, 1) := by decide +kernel
theorem dX2_collect_27 : decode cX2_collect 27 = .ok (.getfield 7, 3) := by decide +kernel
theorem dX2_collect_30 : decode cX2_collect 30 = .ok (.iload_n 1, 1) := by decide +kernel
theorem dX2_collect_31 : decode cX2_collect 31 = .ok (.dup2, 1) := by decide +kernel
theorem dX2_collect_32 : decode cX2_collect 32 = .ok (.laload, 1) := by decide +kernel
theorem dX2_collect_33 : decode cX2_collect 33 = .ok (.lload_n 2, 1) := by decide +kernel
theorem dX2_collect_34 : decode cX2_collect 34 = .ok (.ladd, 1) := by decide +kernel
theorem dX2_collect_35 : decode cX2_collect 35 = .ok (.lastore, 1) := by decide +kernel
theorem dX2_collect_36 : decode cX2_collect 36 = .ok (.aload_n 0, 1) := by decide +kernel
theorem dX2_collect_37 : decode cX2_collect 37 = .ok (.getfield 13, 3) := by decide +kernel
theorem dX2_collect_40 : decode cX2_collect 40 = .ok (.iload_n 1, 1) := by decide +kernel
theorem dX2_collect_41 : decode cX2_collect 41 = .ok (.dup2, 1) := by decide +kernel
theorem dX2_collect_42 : decode cX2_collect 42 = .ok (.iaload, 1) := by decide +kernel
theorem dX2_collect_43 : decode cX2_collect 43 = .ok (.iconst 1, 1) := by decide +kernel
theorem dX2_collect_44 : decode cX2_collect 44 = .ok (.iadd, 1) := by decide +kernel
theorem dX2_collect_45 : decode cX2_collect 45 = .ok (.iastore, 1) := by decide +kernel
theorem dX2_collect_46 : decode cX2_collect 46 = .ok (.aload_n 0, 1) := by decide +kernel
theorem dX2_collect_47 : decode cX2_collect 47 = .ok (.getfield 13, 3) := by decide +kernel
theorem dX2_collect_50 : decode cX2_collect 50 = .ok (.iload_n 1, 1) := by decide +kernel
theorem dX2_collect_51 : decode cX2_collect 51 = .ok (.iaload, 1) := by decide +kernel
theorem dX2_collect_52 : decode cX2_collect 52 = .ok (.ireturn, 1) := by decide +kernel
abbrev cX2_below : ByteArray := prog_7_method_3_code
def yX2_below : MethodName := ⟨RX2, "below", "(II)Z"⟩
theorem dX2_below_0 : decode cX2_below 0 = .ok (.iload_n 0, 1) := by decide +kernel
theorem dX2_below_1 : decode cX2_below 1 = .ok (.ifCond .lt 12, 3) := by decide +kernel
theorem dX2_below_4 : decode cX2_below 4 = .ok (.iload_n 0, 1) := by decide +kernel
theorem dX2_below_5 : decode cX2_below 5 = .ok (.iload_n 1, 1) := by decide +kernel
theorem dX2_below_6 : decode cX2_below 6 = .ok (.if_icmp .ge 7, 3) := by decide +kernel
theorem dX2_below_9 : decode cX2_below 9 = .ok (.iconst 1, 1) := by decide +kernel
theorem dX2_below_10 : decode cX2_below 10 = .ok (.goto 4, 3) := by decide +kernel
theorem dX2_below_13 : decode cX2_below 13 = .ok (.iconst 0, 1) := by decide +kernel
theorem dX2_below_14 : decode cX2_below 14 = .ok (.ireturn, 1) := by decide +kernel
abbrev cX2_answer : ByteArray := prog_7_method_5_code
def yX2_answer : MethodName := ⟨RX2, "answer", "(IJ)I"⟩
theorem dX2_answer_0 : decode cX2_answer 0 = .ok (.aload_n 0, 1) := by decide +kernel
theorem dX2_answer_1 : decode cX2_answer 1 = .ok (.iconst 0, 1) := by decide +kernel
theorem dX2_answer_2 : decode cX2_answer 2 = .ok (.putfield 33, 3) := by decide +kernel
theorem dX2_answer_5 : decode cX2_answer 5 = .ok (.iload_n 1, 1) := by decide +kernel
theorem dX2_answer_6 : decode cX2_answer 6 = .ok (.bipush 32, 2) := by decide +kernel
theorem dX2_answer_8 : decode cX2_answer 8 = .ok (.invokestatic 37, 3) := by decide +kernel
theorem dX2_answer_11 : decode cX2_answer 11 = .ok (.ifCond .ne 5, 3) := by decide +kernel
theorem dX2_answer_14 : decode cX2_answer 14 = .ok (.iconst (-1), 1) := by decide +kernel
theorem dX2_answer_15 : decode cX2_answer 15 = .ok (.ireturn, 1) := by decide +kernel
theorem dX2_answer_16 : decode cX2_answer 16 = .ok (.aload_n 0, 1) := by decide +kernel
theorem dX2_answer_17 : decode cX2_answer 17 = .ok (.getfield 17, 3) := by decide +kernel
theorem dX2_answer_20 : decode cX2_answer 20 = .ok (.iload_n 1, 1) := by decide +kernel
theorem dX2_answer_21 : decode cX2_answer 21 = .ok (.lload_n 2, 1) := by decide +kernel
theorem dX2_answer_22 : decode cX2_answer 22 = .ok (.lastore, 1) := by decide +kernel
theorem dX2_answer_23 : decode cX2_answer 23 = .ok (.iconst 1, 1) := by decide +kernel
theorem dX2_answer_24 : decode cX2_answer 24 = .ok (.ireturn, 1) := by decide +kernel
abbrev cX2_fails : ByteArray := prog_7_method_6_code
def yX2_fails : MethodName := ⟨RX2, "fails", "(II)I"⟩
theorem dX2_fails_0 : decode cX2_fails 0 = .ok (.aload_n 0, 1) := by decide +kernel
theorem dX2_fails_1 : decode cX2_fails 1 = .ok (.iconst 0, 1) := by decide +kernel
theorem dX2_fails_2 : decode cX2_fails 2 = .ok (.putfield 33, 3) := by decide +kernel
theorem dX2_fails_5 : decode cX2_fails 5 = .ok (.iload_n 1, 1) := by decide +kernel
theorem dX2_fails_6 : decode cX2_fails 6 = .ok (.bipush 32, 2) := by decide +kernel
theorem dX2_fails_8 : decode cX2_fails 8 = .ok (.invokestatic 37, 3) := by decide +kernel
theorem dX2_fails_11 : decode cX2_fails 11 = .ok (.ifCond .eq 12, 3) := by decide +kernel
theorem dX2_fails_14 : decode cX2_fails 14 = .ok (.iload_n 2, 1) := by decide +kernel
theorem dX2_fails_15 : decode cX2_fails 15 = .ok (.bipush 7, 2) := by decide +kernel
theorem dX2_fails_17 : decode cX2_fails 17 = .ok (.invokestatic 37, 3) := by decide +kernel
theorem dX2_fails_20 : decode cX2_fails 20 = .ok (.ifCond .ne 5, 3) := by decide +kernel
theorem dX2_fails_23 : decode cX2_fails 23 = .ok (.iconst (-1), 1) := by decide +kernel
theorem dX2_fails_24 : decode cX2_fails 24 = .ok (.ireturn, 1) := by decide +kernel
theorem dX2_fails_25 : decode cX2_fails 25 = .ok (.aload_n 0, 1) := by decide +kernel
theorem dX2_fails_26 : decode cX2_fails 26 = .ok (.getfield 20, 3) := by decide +kernel
theorem dX2_fails_29 : decode cX2_fails 29 = .ok (.iload_n 1, 1) := by decide +kernel
theorem dX2_fails_30 : decode cX2_fails 30 = .ok (.iaload, 1) := by decide +kernel
theorem dX2_fails_31 : decode cX2_fails 31 = .ok (.istore_n 3, 1) := by decide +kernel
theorem dX2_fails_32 : decode cX2_fails 32 = .ok (.aload_n 0, 1) := by decide +kernel
theorem dX2_fails_33 : decode cX2_fails 33 = .ok (.getfield 20, 3) := by decide +kernel
theorem dX2_fails_36 : decode cX2_fails 36 = .ok (.iload_n 1, 1) := by decide +kernel
theorem dX2_fails_37 : decode cX2_fails 37 = .ok (.iload_n 2, 1) := by decide +kernel
theorem dX2_fails_38 : decode cX2_fails 38 = .ok (.iastore, 1) := by decide +kernel
theorem dX2_fails_39 : decode cX2_fails 39 = .ok (.iload_n 3, 1) := by decide +kernel
theorem dX2_fails_40 : decode cX2_fails 40 = .ok (.ireturn, 1) := by decide +kernel
abbrev cX2_make : ByteArray := prog_7_method_7_code
def yX2_make : MethodName := ⟨RX2, "make", "(I)I"⟩
theorem dX2_make_0 : decode cX2_make 0 = .ok (.aload_n 0, 1) := by decide +kernel
theorem dX2_make_1 : decode cX2_make 1 = .ok (.iconst 0, 1) := by decide +kernel
theorem dX2_make_2 : decode cX2_make 2 = .ok (.putfield 33, 3) := by decide +kernel
theorem dX2_make_5 : decode cX2_make 5 = .ok (.iload_n 1, 1) := by decide +kernel
theorem dX2_make_6 : decode cX2_make 6 = .ok (.bipush 8, 2) := by decide +kernel
theorem dX2_make_8 : decode cX2_make 8 = .ok (.invokestatic 37, 3) := by decide +kernel
theorem dX2_make_11 : decode cX2_make 11 = .ok (.ifCond .eq 13, 3) := by decide +kernel
theorem dX2_make_14 : decode cX2_make 14 = .ok (.aload_n 0, 1) := by decide +kernel
theorem dX2_make_15 : decode cX2_make 15 = .ok (.getfield 41, 3) := by decide +kernel
theorem dX2_make_18 : decode cX2_make 18 = .ok (.sipush 200, 3) := by decide +kernel
theorem dX2_make_21 : decode cX2_make 21 = .ok (.if_icmp .ne 5, 3) := by decide +kernel
theorem dX2_make_24 : decode cX2_make 24 = .ok (.iconst (-1), 1) := by decide +kernel
theorem dX2_make_25 : decode cX2_make 25 = .ok (.ireturn, 1) := by decide +kernel
theorem dX2_make_26 : decode cX2_make 26 = .ok (.aload_n 0, 1) := by decide +kernel
theorem dX2_make_27 : decode cX2_make 27 = .ok (.getfield 23, 3) := by decide +kernel
theorem dX2_make_30 : decode cX2_make 30 = .ok (.aload_n 0, 1) := by decide +kernel
theorem dX2_make_31 : decode cX2_make 31 = .ok (.getfield 41, 3) := by decide +kernel
theorem dX2_make_34 : decode cX2_make 34 = .ok (.iload_n 1, 1) := by decide +kernel
theorem dX2_make_35 : decode cX2_make 35 = .ok (.iastore, 1) := by decide +kernel
theorem dX2_make_36 : decode cX2_make 36 = .ok (.aload_n 0, 1) := by decide +kernel
theorem dX2_make_37 : decode cX2_make 37 = .ok (.getfield 26, 3) := by decide +kernel
theorem dX2_make_40 : decode cX2_make 40 = .ok (.aload_n 0, 1) := by decide +kernel
theorem dX2_make_41 : decode cX2_make 41 = .ok (.getfield 41, 3) := by decide +kernel
theorem dX2_make_44 : decode cX2_make 44 = .ok (.iconst 1, 1) := by decide +kernel
theorem dX2_make_45 : decode cX2_make 45 = .ok (.bastore, 1) := by decide +kernel
theorem dX2_make_46 : decode cX2_make 46 = .ok (.aload_n 0, 1) := by decide +kernel
theorem dX2_make_47 : decode cX2_make 47 = .ok (.getfield 30, 3) := by decide +kernel
theorem dX2_make_50 : decode cX2_make 50 = .ok (.aload_n 0, 1) := by decide +kernel
theorem dX2_make_51 : decode cX2_make 51 = .ok (.getfield 41, 3) := by decide +kernel
theorem dX2_make_54 : decode cX2_make 54 = .ok (.lconst 0, 1) := by decide +kernel
theorem dX2_make_55 : decode cX2_make 55 = .ok (.lastore, 1) := by decide +kernel
theorem dX2_make_56 : decode cX2_make 56 = .ok (.aload_n 0, 1) := by decide +kernel
theorem dX2_make_57 : decode cX2_make 57 = .ok (.dup, 1) := by decide +kernel
theorem dX2_make_58 : decode cX2_make 58 = .ok (.getfield 41, 3) := by decide +kernel
theorem dX2_make_61 : decode cX2_make 61 = .ok (.iconst 1, 1) := by decide +kernel
theorem dX2_make_62 : decode cX2_make 62 = .ok (.iadd, 1) := by decide +kernel
theorem dX2_make_63 : decode cX2_make 63 = .ok (.putfield 41, 3) := by decide +kernel
theorem dX2_make_66 : decode cX2_make 66 = .ok (.aload_n 0, 1) := by decide +kernel
theorem dX2_make_67 : decode cX2_make 67 = .ok (.getfield 41, 3) := by decide +kernel
theorem dX2_make_70 : decode cX2_make 70 = .ok (.ireturn, 1) := by decide +kernel
abbrev cX2_again : ByteArray := prog_7_method_11_code
def yX2_again : MethodName := ⟨RX2, "again", "(IIJ)J"⟩
theorem dX2_again_0 : decode cX2_again 0 = .ok (.aload_n 0, 1) := by decide +kernel
theorem dX2_again_1 : decode cX2_again 1 = .ok (.iconst 0, 1) := by decide +kernel
theorem dX2_again_2 : decode cX2_again 2 = .ok (.putfield 33, 3) := by decide +kernel
theorem dX2_again_5 : decode cX2_again 5 = .ok (.aload_n 0, 1) := by decide +kernel
theorem dX2_again_6 : decode cX2_again 6 = .ok (.iload_n 1, 1) := by decide +kernel
theorem dX2_again_7 : decode cX2_again 7 = .ok (.iload_n 2, 1) := by decide +kernel
theorem dX2_again_8 : decode cX2_again 8 = .ok (.lload_n 3, 1) := by decide +kernel
theorem dX2_again_9 : decode cX2_again 9 = .ok (.invokevirtual 57, 3) := by decide +kernel
theorem dX2_again_12 : decode cX2_again 12 = .ok (.lreturn, 1) := by decide +kernel
abbrev cX2_reckoned : ByteArray := prog_7_method_10_code
def yX2_reckoned : MethodName := ⟨RX2, "reckoned", "(IIJ)J"⟩
theorem dX2_reckoned_0 : decode cX2_reckoned 0 = .ok (.aload_n 0, 1) := by decide +kernel
theorem dX2_reckoned_1 : decode cX2_reckoned 1 = .ok (.iload_n 1, 1) := by decide +kernel
theorem dX2_reckoned_2 : decode cX2_reckoned 2 = .ok (.iload_n 2, 1) := by decide +kernel
theorem dX2_reckoned_3 : decode cX2_reckoned 3 = .ok (.lload_n 3, 1) := by decide +kernel
theorem dX2_reckoned_4 : decode cX2_reckoned 4 = .ok (.invokevirtual 50, 3) := by decide +kernel
theorem dX2_reckoned_7 : decode cX2_reckoned 7 = .ok (.istore 5, 2) := by decide +kernel
theorem dX2_reckoned_9 : decode cX2_reckoned 9 = .ok (.aload_n 0, 1) := by decide +kernel
theorem dX2_reckoned_10 : decode cX2_reckoned 10 = .ok (.iload 5, 2) := by decide +kernel
theorem dX2_reckoned_12 : decode cX2_reckoned 12 = .ok (.ifCond .eq 7, 3) := by decide +kernel
theorem dX2_reckoned_15 : decode cX2_reckoned 15 = .ok (.iconst 2, 1) := by decide +kernel
theorem dX2_reckoned_16 : decode cX2_reckoned 16 = .ok (.goto 17, 3) := by decide +kernel
theorem dX2_reckoned_19 : decode cX2_reckoned 19 = .ok (.aload_n 0, 1) := by decide +kernel
theorem dX2_reckoned_20 : decode cX2_reckoned 20 = .ok (.getfield 20, 3) := by decide +kernel
theorem dX2_reckoned_23 : decode cX2_reckoned 23 = .ok (.iload_n 1, 1) := by decide +kernel
theorem dX2_reckoned_24 : decode cX2_reckoned 24 = .ok (.iaload, 1) := by decide +kernel
theorem dX2_reckoned_25 : decode cX2_reckoned 25 = .ok (.ifCond .eq 7, 3) := by decide +kernel
theorem dX2_reckoned_28 : decode cX2_reckoned 28 = .ok (.iconst 1, 1) := by decide +kernel
theorem dX2_reckoned_29 : decode cX2_reckoned 29 = .ok (.goto 4, 3) := by decide +kernel
theorem dX2_reckoned_32 : decode cX2_reckoned 32 = .ok (.iconst 0, 1) := by decide +kernel
theorem dX2_reckoned_33 : decode cX2_reckoned 33 = .ok (.putfield 54, 3) := by decide +kernel
theorem dX2_reckoned_36 : decode cX2_reckoned 36 = .ok (.aload_n 0, 1) := by decide +kernel
theorem dX2_reckoned_37 : decode cX2_reckoned 37 = .ok (.getfield 54, 3) := by decide +kernel
theorem dX2_reckoned_40 : decode cX2_reckoned 40 = .ok (.iconst 2, 1) := by decide +kernel
theorem dX2_reckoned_41 : decode cX2_reckoned 41 = .ok (.if_icmp .ne 7, 3) := by decide +kernel
theorem dX2_reckoned_44 : decode cX2_reckoned 44 = .ok (.iload 5, 2) := by decide +kernel
theorem dX2_reckoned_46 : decode cX2_reckoned 46 = .ok (.i2l, 1) := by decide +kernel
theorem dX2_reckoned_47 : decode cX2_reckoned 47 = .ok (.lreturn, 1) := by decide +kernel
theorem dX2_reckoned_48 : decode cX2_reckoned 48 = .ok (.aload_n 0, 1) := by decide +kernel
theorem dX2_reckoned_49 : decode cX2_reckoned 49 = .ok (.getfield 54, 3) := by decide +kernel
theorem dX2_reckoned_52 : decode cX2_reckoned 52 = .ok (.iconst 1, 1) := by decide +kernel
theorem dX2_reckoned_53 : decode cX2_reckoned 53 = .ok (.if_icmp .ne 14, 3) := by decide +kernel
theorem dX2_reckoned_56 : decode cX2_reckoned 56 = .ok (.bipush (-10), 2) := by decide +kernel
theorem dX2_reckoned_58 : decode cX2_reckoned 58 = .ok (.aload_n 0, 1) := by decide +kernel
theorem dX2_reckoned_59 : decode cX2_reckoned 59 = .ok (.getfield 20, 3) := by decide +kernel
theorem dX2_reckoned_62 : decode cX2_reckoned 62 = .ok (.iload_n 1, 1) := by decide +kernel
theorem dX2_reckoned_63 : decode cX2_reckoned 63 = .ok (.iaload, 1) := by decide +kernel
theorem dX2_reckoned_64 : decode cX2_reckoned 64 = .ok (.isub, 1) := by decide +kernel
theorem dX2_reckoned_65 : decode cX2_reckoned 65 = .ok (.i2l, 1) := by decide +kernel
theorem dX2_reckoned_66 : decode cX2_reckoned 66 = .ok (.lreturn, 1) := by decide +kernel
theorem dX2_reckoned_67 : decode cX2_reckoned 67 = .ok (.iload_n 1, 1) := by decide +kernel
theorem dX2_reckoned_68 : decode cX2_reckoned 68 = .ok (.invokestatic 46, 3) := by decide +kernel
theorem dX2_reckoned_71 : decode cX2_reckoned 71 = .ok (.istore 6, 2) := by decide +kernel
theorem dX2_reckoned_73 : decode cX2_reckoned 73 = .ok (.aload_n 0, 1) := by decide +kernel
theorem dX2_reckoned_74 : decode cX2_reckoned 74 = .ok (.getfield 17, 3) := by decide +kernel
theorem dX2_reckoned_77 : decode cX2_reckoned 77 = .ok (.iload_n 1, 1) := by decide +kernel
theorem dX2_reckoned_78 : decode cX2_reckoned 78 = .ok (.laload, 1) := by decide +kernel
theorem dX2_reckoned_79 : decode cX2_reckoned 79 = .ok (.lload_n 3, 1) := by decide +kernel
theorem dX2_reckoned_80 : decode cX2_reckoned 80 = .ok (.ladd, 1) := by decide +kernel
theorem dX2_reckoned_81 : decode cX2_reckoned 81 = .ok (.iload 6, 2) := by decide +kernel
theorem dX2_reckoned_83 : decode cX2_reckoned 83 = .ok (.iconst (-1), 1) := by decide +kernel
theorem dX2_reckoned_84 : decode cX2_reckoned 84 = .ok (.if_icmp .ne 7, 3) := by decide +kernel
theorem dX2_reckoned_87 : decode cX2_reckoned 87 = .ok (.lconst 0, 1) := by decide +kernel
theorem dX2_reckoned_88 : decode cX2_reckoned 88 = .ok (.goto 10, 3) := by decide +kernel
theorem dX2_reckoned_91 : decode cX2_reckoned 91 = .ok (.aload_n 0, 1) := by decide +kernel
theorem dX2_reckoned_92 : decode cX2_reckoned 92 = .ok (.getfield 7, 3) := by decide +kernel
theorem dX2_reckoned_95 : decode cX2_reckoned 95 = .ok (.iload 6, 2) := by decide +kernel
theorem dX2_reckoned_97 : decode cX2_reckoned 97 = .ok (.laload, 1) := by decide +kernel
theorem dX2_reckoned_98 : decode cX2_reckoned 98 = .ok (.ladd, 1) := by decide +kernel
theorem dX2_reckoned_99 : decode cX2_reckoned 99 = .ok (.aload_n 0, 1) := by decide +kernel
theorem dX2_reckoned_100 : decode cX2_reckoned 100 = .ok (.getfield 23, 3) := by decide +kernel
theorem dX2_reckoned_103 : decode cX2_reckoned 103 = .ok (.iload_n 2, 1) := by decide +kernel
theorem dX2_reckoned_104 : decode cX2_reckoned 104 = .ok (.iconst 1, 1) := by decide +kernel
theorem dX2_reckoned_105 : decode cX2_reckoned 105 = .ok (.isub, 1) := by decide +kernel
theorem dX2_reckoned_106 : decode cX2_reckoned 106 = .ok (.iaload, 1) := by decide +kernel
theorem dX2_reckoned_107 : decode cX2_reckoned 107 = .ok (.iconst 3, 1) := by decide +kernel
theorem dX2_reckoned_108 : decode cX2_reckoned 108 = .ok (.if_icmp .ne 14, 3) := by decide +kernel
theorem dX2_reckoned_111 : decode cX2_reckoned 111 = .ok (.aload_n 0, 1) := by decide +kernel
theorem dX2_reckoned_112 : decode cX2_reckoned 112 = .ok (.getfield 30, 3) := by decide +kernel
theorem dX2_reckoned_115 : decode cX2_reckoned 115 = .ok (.iload_n 2, 1) := by decide +kernel
theorem dX2_reckoned_116 : decode cX2_reckoned 116 = .ok (.iconst 1, 1) := by decide +kernel
theorem dX2_reckoned_117 : decode cX2_reckoned 117 = .ok (.isub, 1) := by decide +kernel
theorem dX2_reckoned_118 : decode cX2_reckoned 118 = .ok (.laload, 1) := by decide +kernel
theorem dX2_reckoned_119 : decode cX2_reckoned 119 = .ok (.goto 4, 3) := by decide +kernel
theorem dX2_reckoned_122 : decode cX2_reckoned 122 = .ok (.lconst 0, 1) := by decide +kernel
theorem dX2_reckoned_123 : decode cX2_reckoned 123 = .ok (.ladd, 1) := by decide +kernel
theorem dX2_reckoned_124 : decode cX2_reckoned 124 = .ok (.lreturn, 1) := by decide +kernel
abbrev cX2_refusal : ByteArray := prog_7_method_9_code
def yX2_refusal : MethodName := ⟨RX2, "refusal", "(IIJ)I"⟩
theorem dX2_refusal_0 : decode cX2_refusal 0 = .ok (.iload_n 1, 1) := by decide +kernel
theorem dX2_refusal_1 : decode cX2_refusal 1 = .ok (.bipush 32, 2) := by decide +kernel
theorem dX2_refusal_3 : decode cX2_refusal 3 = .ok (.invokestatic 37, 3) := by decide +kernel
theorem dX2_refusal_6 : decode cX2_refusal 6 = .ok (.ifCond .eq 31, 3) := by decide +kernel
theorem dX2_refusal_9 : decode cX2_refusal 9 = .ok (.iload_n 2, 1) := by decide +kernel
theorem dX2_refusal_10 : decode cX2_refusal 10 = .ok (.iconst 1, 1) := by decide +kernel
theorem dX2_refusal_11 : decode cX2_refusal 11 = .ok (.if_icmp .lt 26, 3) := by decide +kernel
theorem dX2_refusal_14 : decode cX2_refusal 14 = .ok (.iload_n 2, 1) := by decide +kernel
theorem dX2_refusal_15 : decode cX2_refusal 15 = .ok (.aload_n 0, 1) := by decide +kernel
theorem dX2_refusal_16 : decode cX2_refusal 16 = .ok (.getfield 41, 3) := by decide +kernel
theorem dX2_refusal_19 : decode cX2_refusal 19 = .ok (.if_icmp .gt 18, 3) := by decide +kernel
theorem dX2_refusal_22 : decode cX2_refusal 22 = .ok (.aload_n 0, 1) := by decide +kernel
theorem dX2_refusal_23 : decode cX2_refusal 23 = .ok (.getfield 23, 3) := by decide +kernel
theorem dX2_refusal_26 : decode cX2_refusal 26 = .ok (.iload_n 2, 1) := by decide +kernel
theorem dX2_refusal_27 : decode cX2_refusal 27 = .ok (.iconst 1, 1) := by decide +kernel
theorem dX2_refusal_28 : decode cX2_refusal 28 = .ok (.isub, 1) := by decide +kernel
theorem dX2_refusal_29 : decode cX2_refusal 29 = .ok (.iaload, 1) := by decide +kernel
theorem dX2_refusal_30 : decode cX2_refusal 30 = .ok (.iload_n 1, 1) := by decide +kernel
theorem dX2_refusal_31 : decode cX2_refusal 31 = .ok (.bipush 8, 2) := by decide +kernel
theorem dX2_refusal_33 : decode cX2_refusal 33 = .ok (.irem, 1) := by decide +kernel
theorem dX2_refusal_34 : decode cX2_refusal 34 = .ok (.if_icmp .eq 6, 3) := by decide +kernel
theorem dX2_refusal_37 : decode cX2_refusal 37 = .ok (.bipush (-2), 2) := by decide +kernel
theorem dX2_refusal_39 : decode cX2_refusal 39 = .ok (.ireturn, 1) := by decide +kernel
theorem dX2_refusal_40 : decode cX2_refusal 40 = .ok (.lload_n 3, 1) := by decide +kernel
theorem dX2_refusal_41 : decode cX2_refusal 41 = .ok (.lconst 0, 1) := by decide +kernel
theorem dX2_refusal_42 : decode cX2_refusal 42 = .ok (.lcmp, 1) := by decide +kernel
theorem dX2_refusal_43 : decode cX2_refusal 43 = .ok (.ifCond .lt 11, 3) := by decide +kernel
theorem dX2_refusal_46 : decode cX2_refusal 46 = .ok (.lload_n 3, 1) := by decide +kernel
theorem dX2_refusal_47 : decode cX2_refusal 47 = .ok (.ldc2_w 44, 3) := by decide +kernel
theorem dX2_refusal_50 : decode cX2_refusal 50 = .ok (.lcmp, 1) := by decide +kernel
theorem dX2_refusal_51 : decode cX2_refusal 51 = .ok (.ifCond .le 6, 3) := by decide +kernel
theorem dX2_refusal_54 : decode cX2_refusal 54 = .ok (.bipush (-4), 2) := by decide +kernel
theorem dX2_refusal_56 : decode cX2_refusal 56 = .ok (.ireturn, 1) := by decide +kernel
theorem dX2_refusal_57 : decode cX2_refusal 57 = .ok (.aload_n 0, 1) := by decide +kernel
theorem dX2_refusal_58 : decode cX2_refusal 58 = .ok (.getfield 26, 3) := by decide +kernel
theorem dX2_refusal_61 : decode cX2_refusal 61 = .ok (.iload_n 2, 1) := by decide +kernel
theorem dX2_refusal_62 : decode cX2_refusal 62 = .ok (.iconst 1, 1) := by decide +kernel
theorem dX2_refusal_63 : decode cX2_refusal 63 = .ok (.isub, 1) := by decide +kernel
theorem dX2_refusal_64 : decode cX2_refusal 64 = .ok (.baload, 1) := by decide +kernel
theorem dX2_refusal_65 : decode cX2_refusal 65 = .ok (.ifCond .eq 21, 3) := by decide +kernel
theorem dX2_refusal_68 : decode cX2_refusal 68 = .ok (.iload_n 1, 1) := by decide +kernel
theorem dX2_refusal_69 : decode cX2_refusal 69 = .ok (.bipush 24, 2) := by decide +kernel
theorem dX2_refusal_71 : decode cX2_refusal 71 = .ok (.if_icmp .lt 20, 3) := by decide +kernel
theorem dX2_refusal_74 : decode cX2_refusal 74 = .ok (.aload_n 0, 1) := by decide +kernel
theorem dX2_refusal_75 : decode cX2_refusal 75 = .ok (.getfield 13, 3) := by decide +kernel
theorem dX2_refusal_78 : decode cX2_refusal 78 = .ok (.iload_n 1, 1) := by decide +kernel
theorem dX2_refusal_79 : decode cX2_refusal 79 = .ok (.invokestatic 46, 3) := by decide +kernel
theorem dX2_refusal_82 : decode cX2_refusal 82 = .ok (.iaload, 1) := by decide +kernel
theorem dX2_refusal_83 : decode cX2_refusal 83 = .ok (.ifCond .ne 8, 3) := by decide +kernel
theorem dX2_refusal_86 : decode cX2_refusal 86 = .ok (.bipush (-5), 2) := by decide +kernel
theorem dX2_refusal_88 : decode cX2_refusal 88 = .ok (.goto 4, 3) := by decide +kernel
theorem dX2_refusal_91 : decode cX2_refusal 91 = .ok (.iconst 0, 1) := by decide +kernel
theorem dX2_refusal_92 : decode cX2_refusal 92 = .ok (.ireturn, 1) := by decide +kernel
abbrev cX2_rowOf : ByteArray := prog_7_method_8_code
def yX2_rowOf : MethodName := ⟨RX2, "rowOf", "(I)I"⟩
theorem dX2_rowOf_0 : decode cX2_rowOf 0 = .ok (.iload_n 0, 1) := by decide +kernel
theorem dX2_rowOf_1 : decode cX2_rowOf 1 = .ok (.bipush 8, 2) := by decide +kernel
theorem dX2_rowOf_3 : decode cX2_rowOf 3 = .ok (.if_icmp .ge 7, 3) := by decide +kernel
theorem dX2_rowOf_6 : decode cX2_rowOf 6 = .ok (.iconst (-1), 1) := by decide +kernel
theorem dX2_rowOf_7 : decode cX2_rowOf 7 = .ok (.goto 6, 3) := by decide +kernel
theorem dX2_rowOf_10 : decode cX2_rowOf 10 = .ok (.iload_n 0, 1) := by decide +kernel
theorem dX2_rowOf_11 : decode cX2_rowOf 11 = .ok (.iconst 4, 1) := by decide +kernel
theorem dX2_rowOf_12 : decode cX2_rowOf 12 = .ok (.irem, 1) := by decide +kernel
theorem dX2_rowOf_13 : decode cX2_rowOf 13 = .ok (.ireturn, 1) := by decide +kernel
abbrev cX2_call : ByteArray := prog_7_method_12_code
def yX2_call : MethodName := ⟨RX2, "call", "(IIJ)J"⟩
theorem dX2_call_0 : decode cX2_call 0 = .ok (.aload_n 0, 1) := by decide +kernel
theorem dX2_call_1 : decode cX2_call 1 = .ok (.iconst 0, 1) := by decide +kernel
theorem dX2_call_2 : decode cX2_call 2 = .ok (.putfield 33, 3) := by decide +kernel
theorem dX2_call_5 : decode cX2_call 5 = .ok (.aload_n 0, 1) := by decide +kernel
theorem dX2_call_6 : decode cX2_call 6 = .ok (.iload_n 1, 1) := by decide +kernel
theorem dX2_call_7 : decode cX2_call 7 = .ok (.iload_n 2, 1) := by decide +kernel
theorem dX2_call_8 : decode cX2_call 8 = .ok (.lload_n 3, 1) := by decide +kernel
theorem dX2_call_9 : decode cX2_call 9 = .ok (.invokevirtual 57, 3) := by decide +kernel
theorem dX2_call_12 : decode cX2_call 12 = .ok (.lstore 5, 2) := by decide +kernel
theorem dX2_call_14 : decode cX2_call 14 = .ok (.aload_n 0, 1) := by decide +kernel
theorem dX2_call_15 : decode cX2_call 15 = .ok (.getfield 54, 3) := by decide +kernel
theorem dX2_call_18 : decode cX2_call 18 = .ok (.iconst 2, 1) := by decide +kernel
theorem dX2_call_19 : decode cX2_call 19 = .ok (.if_icmp .ne 16, 3) := by decide +kernel
theorem dX2_call_22 : decode cX2_call 22 = .ok (.aload_n 0, 1) := by decide +kernel
theorem dX2_call_23 : decode cX2_call 23 = .ok (.dup, 1) := by decide +kernel
theorem dX2_call_24 : decode cX2_call 24 = .ok (.getfield 61, 3) := by decide +kernel
theorem dX2_call_27 : decode cX2_call 27 = .ok (.iconst 1, 1) := by decide +kernel
theorem dX2_call_28 : decode cX2_call 28 = .ok (.iadd, 1) := by decide +kernel
theorem dX2_call_29 : decode cX2_call 29 = .ok (.putfield 61, 3) := by decide +kernel
theorem dX2_call_32 : decode cX2_call 32 = .ok (.lload 5, 2) := by decide +kernel
theorem dX2_call_34 : decode cX2_call 34 = .ok (.lreturn, 1) := by decide +kernel
theorem dX2_call_35 : decode cX2_call 35 = .ok (.iload_n 1, 1) := by decide +kernel
theorem dX2_call_36 : decode cX2_call 36 = .ok (.invokestatic 46, 3) := by decide +kernel
theorem dX2_call_39 : decode cX2_call 39 = .ok (.istore 7, 2) := by decide +kernel
theorem dX2_call_41 : decode cX2_call 41 = .ok (.iload 7, 2) := by decide +kernel
theorem dX2_call_43 : decode cX2_call 43 = .ok (.iconst (-1), 1) := by decide +kernel
theorem dX2_call_44 : decode cX2_call 44 = .ok (.if_icmp .eq 19, 3) := by decide +kernel
theorem dX2_call_47 : decode cX2_call 47 = .ok (.aload_n 0, 1) := by decide +kernel
theorem dX2_call_48 : decode cX2_call 48 = .ok (.getfield 7, 3) := by decide +kernel
theorem dX2_call_51 : decode cX2_call 51 = .ok (.iload 7, 2) := by decide +kernel
theorem dX2_call_53 : decode cX2_call 53 = .ok (.lconst 0, 1) := by decide +kernel
theorem dX2_call_54 : decode cX2_call 54 = .ok (.lastore, 1) := by decide +kernel
theorem dX2_call_55 : decode cX2_call 55 = .ok (.aload_n 0, 1) := by decide +kernel
theorem dX2_call_56 : decode cX2_call 56 = .ok (.getfield 13, 3) := by decide +kernel
theorem dX2_call_59 : decode cX2_call 59 = .ok (.iload 7, 2) := by decide +kernel
theorem dX2_call_61 : decode cX2_call 61 = .ok (.iconst 0, 1) := by decide +kernel
theorem dX2_call_62 : decode cX2_call 62 = .ok (.iastore, 1) := by decide +kernel
theorem dX2_call_63 : decode cX2_call 63 = .ok (.aload_n 0, 1) := by decide +kernel
theorem dX2_call_64 : decode cX2_call 64 = .ok (.getfield 54, 3) := by decide +kernel
theorem dX2_call_67 : decode cX2_call 67 = .ok (.ifCond .ne 28, 3) := by decide +kernel
theorem dX2_call_70 : decode cX2_call 70 = .ok (.aload_n 0, 1) := by decide +kernel
theorem dX2_call_71 : decode cX2_call 71 = .ok (.getfield 30, 3) := by decide +kernel
theorem dX2_call_74 : decode cX2_call 74 = .ok (.iload_n 2, 1) := by decide +kernel
theorem dX2_call_75 : decode cX2_call 75 = .ok (.iconst 1, 1) := by decide +kernel
theorem dX2_call_76 : decode cX2_call 76 = .ok (.isub, 1) := by decide +kernel
theorem dX2_call_77 : decode cX2_call 77 = .ok (.dup2, 1) := by decide +kernel
theorem dX2_call_78 : decode cX2_call 78 = .ok (.laload, 1) := by decide +kernel
theorem dX2_call_79 : decode cX2_call 79 = .ok (.lconst 1, 1) := by decide +kernel
theorem dX2_call_80 : decode cX2_call 80 = .ok (.ladd, 1) := by decide +kernel
theorem dX2_call_81 : decode cX2_call 81 = .ok (.lastore, 1) := by decide +kernel
theorem dX2_call_82 : decode cX2_call 82 = .ok (.aload_n 0, 1) := by decide +kernel
theorem dX2_call_83 : decode cX2_call 83 = .ok (.dup, 1) := by decide +kernel
theorem dX2_call_84 : decode cX2_call 84 = .ok (.getfield 64, 3) := by decide +kernel
theorem dX2_call_87 : decode cX2_call 87 = .ok (.iconst 1, 1) := by decide +kernel
theorem dX2_call_88 : decode cX2_call 88 = .ok (.iadd, 1) := by decide +kernel
theorem dX2_call_89 : decode cX2_call 89 = .ok (.putfield 64, 3) := by decide +kernel
theorem dX2_call_92 : decode cX2_call 92 = .ok (.goto 42, 3) := by decide +kernel
theorem dX2_call_95 : decode cX2_call 95 = .ok (.aload_n 0, 1) := by decide +kernel
theorem dX2_call_96 : decode cX2_call 96 = .ok (.getfield 26, 3) := by decide +kernel
theorem dX2_call_99 : decode cX2_call 99 = .ok (.iload_n 2, 1) := by decide +kernel
theorem dX2_call_100 : decode cX2_call 100 = .ok (.iconst 1, 1) := by decide +kernel
theorem dX2_call_101 : decode cX2_call 101 = .ok (.isub, 1) := by decide +kernel
theorem dX2_call_102 : decode cX2_call 102 = .ok (.iconst 0, 1) := by decide +kernel
theorem dX2_call_103 : decode cX2_call 103 = .ok (.bastore, 1) := by decide +kernel
theorem dX2_call_104 : decode cX2_call 104 = .ok (.aload_n 0, 1) := by decide +kernel
theorem dX2_call_105 : decode cX2_call 105 = .ok (.aload_n 0, 1) := by decide +kernel
theorem dX2_call_106 : decode cX2_call 106 = .ok (.getfield 20, 3) := by decide +kernel
theorem dX2_call_109 : decode cX2_call 109 = .ok (.iload_n 1, 1) := by decide +kernel
theorem dX2_call_110 : decode cX2_call 110 = .ok (.iaload, 1) := by decide +kernel
theorem dX2_call_111 : decode cX2_call 111 = .ok (.putfield 67, 3) := by decide +kernel
theorem dX2_call_114 : decode cX2_call 114 = .ok (.aload_n 0, 1) := by decide +kernel
theorem dX2_call_115 : decode cX2_call 115 = .ok (.iload_n 1, 1) := by decide +kernel
theorem dX2_call_116 : decode cX2_call 116 = .ok (.putfield 70, 3) := by decide +kernel
theorem dX2_call_119 : decode cX2_call 119 = .ok (.aload_n 0, 1) := by decide +kernel
theorem dX2_call_120 : decode cX2_call 120 = .ok (.iload_n 2, 1) := by decide +kernel
theorem dX2_call_121 : decode cX2_call 121 = .ok (.putfield 73, 3) := by decide +kernel
theorem dX2_call_124 : decode cX2_call 124 = .ok (.aload_n 0, 1) := by decide +kernel
theorem dX2_call_125 : decode cX2_call 125 = .ok (.dup, 1) := by decide +kernel
theorem dX2_call_126 : decode cX2_call 126 = .ok (.getfield 76, 3) := by decide +kernel
theorem dX2_call_129 : decode cX2_call 129 = .ok (.iconst 1, 1) := by decide +kernel
theorem dX2_call_130 : decode cX2_call 130 = .ok (.iadd, 1) := by decide +kernel
theorem dX2_call_131 : decode cX2_call 131 = .ok (.putfield 76, 3) := by decide +kernel
theorem dX2_call_134 : decode cX2_call 134 = .ok (.lload 5, 2) := by decide +kernel
theorem dX2_call_136 : decode cX2_call 136 = .ok (.lreturn, 1) := by decide +kernel
abbrev cX2_told : ByteArray := prog_7_method_13_code
def yX2_told : MethodName := ⟨RX2, "told", "(I)I"⟩
theorem dX2_told_0 : decode cX2_told 0 = .ok (.aload_n 0, 1) := by decide +kernel
theorem dX2_told_1 : decode cX2_told 1 = .ok (.iconst 0, 1) := by decide +kernel
theorem dX2_told_2 : decode cX2_told 2 = .ok (.putfield 33, 3) := by decide +kernel
theorem dX2_told_5 : decode cX2_told 5 = .ok (.iload_n 1, 1) := by decide +kernel
theorem dX2_told_6 : decode cX2_told 6 = .ok (.tableswitch 68 0 5 #[38, 43, 48, 53, 58, 63], 38) := by decide +kernel
theorem dX2_told_44 : decode cX2_told 44 = .ok (.aload_n 0, 1) := by decide +kernel
theorem dX2_told_45 : decode cX2_told 45 = .ok (.getfield 67, 3) := by decide +kernel
theorem dX2_told_48 : decode cX2_told 48 = .ok (.ireturn, 1) := by decide +kernel
theorem dX2_told_49 : decode cX2_told 49 = .ok (.aload_n 0, 1) := by decide +kernel
theorem dX2_told_50 : decode cX2_told 50 = .ok (.getfield 70, 3) := by decide +kernel
theorem dX2_told_53 : decode cX2_told 53 = .ok (.ireturn, 1) := by decide +kernel
theorem dX2_told_54 : decode cX2_told 54 = .ok (.aload_n 0, 1) := by decide +kernel
theorem dX2_told_55 : decode cX2_told 55 = .ok (.getfield 73, 3) := by decide +kernel
theorem dX2_told_58 : decode cX2_told 58 = .ok (.ireturn, 1) := by decide +kernel
theorem dX2_told_59 : decode cX2_told 59 = .ok (.aload_n 0, 1) := by decide +kernel
theorem dX2_told_60 : decode cX2_told 60 = .ok (.getfield 76, 3) := by decide +kernel
theorem dX2_told_63 : decode cX2_told 63 = .ok (.ireturn, 1) := by decide +kernel
theorem dX2_told_64 : decode cX2_told 64 = .ok (.aload_n 0, 1) := by decide +kernel
theorem dX2_told_65 : decode cX2_told 65 = .ok (.getfield 61, 3) := by decide +kernel
theorem dX2_told_68 : decode cX2_told 68 = .ok (.ireturn, 1) := by decide +kernel
theorem dX2_told_69 : decode cX2_told 69 = .ok (.aload_n 0, 1) := by decide +kernel
theorem dX2_told_70 : decode cX2_told 70 = .ok (.getfield 64, 3) := by decide +kernel
theorem dX2_told_73 : decode cX2_told 73 = .ok (.ireturn, 1) := by decide +kernel
theorem dX2_told_74 : decode cX2_told 74 = .ok (.iconst (-1), 1) := by decide +kernel
theorem dX2_told_75 : decode cX2_told 75 = .ok (.ireturn, 1) := by decide +kernel
abbrev cX2_drop : ByteArray := prog_7_method_14_code
def yX2_drop : MethodName := ⟨RX2, "drop", "(I)Z"⟩
theorem dX2_drop_0 : decode cX2_drop 0 = .ok (.aload_n 0, 1) := by decide +kernel
theorem dX2_drop_1 : decode cX2_drop 1 = .ok (.iconst 0, 1) := by decide +kernel
theorem dX2_drop_2 : decode cX2_drop 2 = .ok (.putfield 33, 3) := by decide +kernel
theorem dX2_drop_5 : decode cX2_drop 5 = .ok (.iload_n 1, 1) := by decide +kernel
theorem dX2_drop_6 : decode cX2_drop 6 = .ok (.iconst 1, 1) := by decide +kernel
theorem dX2_drop_7 : decode cX2_drop 7 = .ok (.if_icmp .lt 22, 3) := by decide +kernel
theorem dX2_drop_10 : decode cX2_drop 10 = .ok (.iload_n 1, 1) := by decide +kernel
theorem dX2_drop_11 : decode cX2_drop 11 = .ok (.aload_n 0, 1) := by decide +kernel
theorem dX2_drop_12 : decode cX2_drop 12 = .ok (.getfield 41, 3) := by decide +kernel
theorem dX2_drop_15 : decode cX2_drop 15 = .ok (.if_icmp .gt 14, 3) := by decide +kernel
theorem dX2_drop_18 : decode cX2_drop 18 = .ok (.aload_n 0, 1) := by decide +kernel
theorem dX2_drop_19 : decode cX2_drop 19 = .ok (.getfield 26, 3) := by decide +kernel
theorem dX2_drop_22 : decode cX2_drop 22 = .ok (.iload_n 1, 1) := by decide +kernel
theorem dX2_drop_23 : decode cX2_drop 23 = .ok (.iconst 1, 1) := by decide +kernel
theorem dX2_drop_24 : decode cX2_drop 24 = .ok (.isub, 1) := by decide +kernel
theorem dX2_drop_25 : decode cX2_drop 25 = .ok (.baload, 1) := by decide +kernel
theorem dX2_drop_26 : decode cX2_drop 26 = .ok (.ifCond .ne 5, 3) := by decide +kernel
theorem dX2_drop_29 : decode cX2_drop 29 = .ok (.iconst 0, 1) := by decide +kernel
theorem dX2_drop_30 : decode cX2_drop 30 = .ok (.ireturn, 1) := by decide +kernel
theorem dX2_drop_31 : decode cX2_drop 31 = .ok (.aload_n 0, 1) := by decide +kernel
theorem dX2_drop_32 : decode cX2_drop 32 = .ok (.getfield 26, 3) := by decide +kernel
theorem dX2_drop_35 : decode cX2_drop 35 = .ok (.iload_n 1, 1) := by decide +kernel
theorem dX2_drop_36 : decode cX2_drop 36 = .ok (.iconst 1, 1) := by decide +kernel
theorem dX2_drop_37 : decode cX2_drop 37 = .ok (.isub, 1) := by decide +kernel
theorem dX2_drop_38 : decode cX2_drop 38 = .ok (.iconst 0, 1) := by decide +kernel
theorem dX2_drop_39 : decode cX2_drop 39 = .ok (.bastore, 1) := by decide +kernel
theorem dX2_drop_40 : decode cX2_drop 40 = .ok (.iconst 1, 1) := by decide +kernel
theorem dX2_drop_41 : decode cX2_drop 41 = .ok (.ireturn, 1) := by decide +kernel
abbrev cX2_numbers : ByteArray := prog_7_method_15_code
def yX2_numbers : MethodName := ⟨RX2, "numbers", "(I)I"⟩
theorem dX2_numbers_0 : decode cX2_numbers 0 = .ok (.aload_n 0, 1) := by decide +kernel
theorem dX2_numbers_1 : decode cX2_numbers 1 = .ok (.iconst 0, 1) := by decide +kernel
theorem dX2_numbers_2 : decode cX2_numbers 2 = .ok (.putfield 33, 3) := by decide +kernel
theorem dX2_numbers_5 : decode cX2_numbers 5 = .ok (.iload_n 1, 1) := by decide +kernel
theorem dX2_numbers_6 : decode cX2_numbers 6 = .ok (.bipush 8, 2) := by decide +kernel
theorem dX2_numbers_8 : decode cX2_numbers 8 = .ok (.invokestatic 37, 3) := by decide +kernel
theorem dX2_numbers_11 : decode cX2_numbers 11 = .ok (.ifCond .ne 5, 3) := by decide +kernel
theorem dX2_numbers_14 : decode cX2_numbers 14 = .ok (.iconst (-1), 1) := by decide +kernel
theorem dX2_numbers_15 : decode cX2_numbers 15 = .ok (.ireturn, 1) := by decide +kernel
theorem dX2_numbers_16 : decode cX2_numbers 16 = .ok (.iconst 0, 1) := by decide +kernel
theorem dX2_numbers_17 : decode cX2_numbers 17 = .ok (.istore_n 2, 1) := by decide +kernel
theorem dX2_numbers_18 : decode cX2_numbers 18 = .ok (.iconst 0, 1) := by decide +kernel
theorem dX2_numbers_19 : decode cX2_numbers 19 = .ok (.istore_n 3, 1) := by decide +kernel
theorem dX2_numbers_20 : decode cX2_numbers 20 = .ok (.iload_n 3, 1) := by decide +kernel
theorem dX2_numbers_21 : decode cX2_numbers 21 = .ok (.aload_n 0, 1) := by decide +kernel
theorem dX2_numbers_22 : decode cX2_numbers 22 = .ok (.getfield 41, 3) := by decide +kernel
theorem dX2_numbers_25 : decode cX2_numbers 25 = .ok (.if_icmp .ge 31, 3) := by decide +kernel
theorem dX2_numbers_28 : decode cX2_numbers 28 = .ok (.aload_n 0, 1) := by decide +kernel
theorem dX2_numbers_29 : decode cX2_numbers 29 = .ok (.getfield 26, 3) := by decide +kernel
theorem dX2_numbers_32 : decode cX2_numbers 32 = .ok (.iload_n 3, 1) := by decide +kernel
theorem dX2_numbers_33 : decode cX2_numbers 33 = .ok (.baload, 1) := by decide +kernel
theorem dX2_numbers_34 : decode cX2_numbers 34 = .ok (.ifCond .eq 16, 3) := by decide +kernel
theorem dX2_numbers_37 : decode cX2_numbers 37 = .ok (.aload_n 0, 1) := by decide +kernel
theorem dX2_numbers_38 : decode cX2_numbers 38 = .ok (.getfield 23, 3) := by decide +kernel
theorem dX2_numbers_41 : decode cX2_numbers 41 = .ok (.iload_n 3, 1) := by decide +kernel
theorem dX2_numbers_42 : decode cX2_numbers 42 = .ok (.iaload, 1) := by decide +kernel
theorem dX2_numbers_43 : decode cX2_numbers 43 = .ok (.iload_n 1, 1) := by decide +kernel
theorem dX2_numbers_44 : decode cX2_numbers 44 = .ok (.if_icmp .ne 6, 3) := by decide +kernel
theorem dX2_numbers_47 : decode cX2_numbers 47 = .ok (.iinc 2 1, 3) := by decide +kernel
theorem dX2_numbers_50 : decode cX2_numbers 50 = .ok (.iinc 3 1, 3) := by decide +kernel
theorem dX2_numbers_53 : decode cX2_numbers 53 = .ok (.goto (-33), 3) := by decide +kernel
theorem dX2_numbers_56 : decode cX2_numbers 56 = .ok (.iload_n 2, 1) := by decide +kernel
theorem dX2_numbers_57 : decode cX2_numbers 57 = .ok (.ireturn, 1) := by decide +kernel
theorem q21 : (Jvm.Cond.initialized "MainframeDeskModel") ∈ lw_all := lw_g (lw_at lw_m1 10 rfl) rfl
theorem q119 : (Jvm.Cond.selects "MainframeDeskModel" ({ cls := "java/lang/Object", name := "getClass", desc := "()Ljava/lang/Class;" } : Jvm.MethodName) ({ cls := "java/lang/Object", name := "getClass", desc := "()Ljava/lang/Class;" } : Jvm.MethodName)) ∈ lw_all := lw_g (lw_at lw_m1 108 rfl) rfl
theorem q550 : (Jvm.Cond.instantiable "MainframeDeskModel" (16 : Nat)) ∈ lw_all := lw_g (lw_at lw_m3 59 rfl) rfl
theorem q552 : (Jvm.Cond.instanceMethod ({ cls := "MainframeDeskModel", name := "<init>", desc := "()V" } : Jvm.MethodName)) ∈ lw_all := lw_g (lw_at lw_m3 61 rfl) rfl
theorem q553 : (Jvm.Cond.code ({ cls := "MainframeDeskModel", name := "<init>", desc := "()V" } : Jvm.MethodName) prog_7_method_1_code (1 : Nat) (Option.none : Option Jvm.ClassFile.FieldType)) ∈ lw_all := lw_g (lw_at lw_m3 62 rfl) rfl
theorem q554 : (Jvm.Cond.methodLink "MainframeDeskModel" (1 : Nat) ({ cls := "java/lang/Object", name := "<init>", desc := "()V" } : Jvm.MethodName)) ∈ lw_all := lw_g (lw_at lw_m3 63 rfl) rfl
theorem q555 : (Jvm.Cond.fieldLink "MainframeDeskModel" (7 : Nat) "MainframeDeskModel" "sum" "[J") ∈ lw_all := lw_g (lw_at lw_m3 64 rfl) rfl
theorem q556 : (Jvm.Cond.fieldLink "MainframeDeskModel" (13 : Nat) "MainframeDeskModel" "many" "[I") ∈ lw_all := lw_g (lw_at lw_m3 65 rfl) rfl
theorem q557 : (Jvm.Cond.fieldLink "MainframeDeskModel" (17 : Nat) "MainframeDeskModel" "answers" "[J") ∈ lw_all := lw_g (lw_at lw_m3 66 rfl) rfl
theorem q558 : (Jvm.Cond.fieldLink "MainframeDeskModel" (20 : Nat) "MainframeDeskModel" "failures" "[I") ∈ lw_all := lw_g (lw_at lw_m3 67 rfl) rfl
theorem q559 : (Jvm.Cond.fieldLink "MainframeDeskModel" (23 : Nat) "MainframeDeskModel" "kind" "[I") ∈ lw_all := lw_g (lw_at lw_m3 68 rfl) rfl
theorem q560 : (Jvm.Cond.fieldLink "MainframeDeskModel" (26 : Nat) "MainframeDeskModel" "there" "[Z") ∈ lw_all := lw_g (lw_at lw_m3 69 rfl) rfl
theorem q561 : (Jvm.Cond.fieldLink "MainframeDeskModel" (30 : Nat) "MainframeDeskModel" "answered" "[J") ∈ lw_all := lw_g (lw_at lw_m3 70 rfl) rfl
theorem q562 : (Jvm.Cond.fieldLink "MainframeDeskModel" (41 : Nat) "MainframeDeskModel" "made" "I") ∈ lw_all := lw_g (lw_at lw_m3 71 rfl) rfl
theorem q563 : (Jvm.Cond.fieldLink "MainframeDeskModel" (33 : Nat) "MainframeDeskModel" "thrown" "I") ∈ lw_all := lw_g (lw_at lw_m3 72 rfl) rfl
theorem q564 : (Jvm.Cond.fieldLink "MainframeDeskModel" (67 : Nat) "MainframeDeskModel" "latest" "I") ∈ lw_all := lw_g (lw_at lw_m3 73 rfl) rfl
theorem q565 : (Jvm.Cond.fieldLink "MainframeDeskModel" (70 : Nat) "MainframeDeskModel" "latestCall" "I") ∈ lw_all := lw_g (lw_at lw_m3 74 rfl) rfl
theorem q566 : (Jvm.Cond.fieldLink "MainframeDeskModel" (73 : Nat) "MainframeDeskModel" "latestThing" "I") ∈ lw_all := lw_g (lw_at lw_m3 75 rfl) rfl
theorem q567 : (Jvm.Cond.fieldLink "MainframeDeskModel" (76 : Nat) "MainframeDeskModel" "failed" "I") ∈ lw_all := lw_g (lw_at lw_m3 76 rfl) rfl
theorem q568 : (Jvm.Cond.fieldLink "MainframeDeskModel" (61 : Nat) "MainframeDeskModel" "refused" "I") ∈ lw_all := lw_g (lw_at lw_m3 77 rfl) rfl
theorem q569 : (Jvm.Cond.fieldLink "MainframeDeskModel" (64 : Nat) "MainframeDeskModel" "done" "I") ∈ lw_all := lw_g (lw_at lw_m3 78 rfl) rfl
theorem q570 : (Jvm.Cond.fieldLink "MainframeDeskModel" (54 : Nat) "MainframeDeskModel" "way" "I") ∈ lw_all := lw_g (lw_at lw_m3 79 rfl) rfl
theorem q571 : (Jvm.Cond.laysFinal "MainframeDeskModel" "MainframeDeskModel" "sum" "[J") ∈ lw_all := lw_g (lw_at lw_m3 80 rfl) rfl
theorem q572 : (Jvm.Cond.soleField "MainframeDeskModel" "sum") ∈ lw_all := lw_g (lw_at lw_m3 81 rfl) rfl
theorem q573 : (Jvm.Cond.laysFinal "MainframeDeskModel" "MainframeDeskModel" "many" "[I") ∈ lw_all := lw_g (lw_at lw_m3 82 rfl) rfl
theorem q574 : (Jvm.Cond.soleField "MainframeDeskModel" "many") ∈ lw_all := lw_g (lw_at lw_m3 83 rfl) rfl
theorem q575 : (Jvm.Cond.laysFinal "MainframeDeskModel" "MainframeDeskModel" "answers" "[J") ∈ lw_all := lw_g (lw_at lw_m3 84 rfl) rfl
theorem q576 : (Jvm.Cond.soleField "MainframeDeskModel" "answers") ∈ lw_all := lw_g (lw_at lw_m3 85 rfl) rfl
theorem q577 : (Jvm.Cond.laysFinal "MainframeDeskModel" "MainframeDeskModel" "failures" "[I") ∈ lw_all := lw_g (lw_at lw_m3 86 rfl) rfl
theorem q578 : (Jvm.Cond.soleField "MainframeDeskModel" "failures") ∈ lw_all := lw_g (lw_at lw_m3 87 rfl) rfl
theorem q579 : (Jvm.Cond.laysFinal "MainframeDeskModel" "MainframeDeskModel" "kind" "[I") ∈ lw_all := lw_g (lw_at lw_m3 88 rfl) rfl
theorem q580 : (Jvm.Cond.soleField "MainframeDeskModel" "kind") ∈ lw_all := lw_g (lw_at lw_m3 89 rfl) rfl
theorem q581 : (Jvm.Cond.laysFinal "MainframeDeskModel" "MainframeDeskModel" "there" "[Z") ∈ lw_all := lw_g (lw_at lw_m3 90 rfl) rfl
theorem q582 : (Jvm.Cond.soleField "MainframeDeskModel" "there") ∈ lw_all := lw_g (lw_at lw_m3 91 rfl) rfl
theorem q583 : (Jvm.Cond.laysFinal "MainframeDeskModel" "MainframeDeskModel" "answered" "[J") ∈ lw_all := lw_g (lw_at lw_m3 92 rfl) rfl
theorem q584 : (Jvm.Cond.soleField "MainframeDeskModel" "answered") ∈ lw_all := lw_g (lw_at lw_m3 93 rfl) rfl
theorem q585 : (Jvm.Cond.lays "MainframeDeskModel" "MainframeDeskModel" "made" "I") ∈ lw_all := lw_g (lw_at lw_m3 94 rfl) rfl
theorem q586 : (Jvm.Cond.soleField "MainframeDeskModel" "made") ∈ lw_all := lw_g (lw_at lw_m3 95 rfl) rfl
theorem q587 : (Jvm.Cond.lays "MainframeDeskModel" "MainframeDeskModel" "thrown" "I") ∈ lw_all := lw_g (lw_at lw_m3 96 rfl) rfl
theorem q588 : (Jvm.Cond.soleField "MainframeDeskModel" "thrown") ∈ lw_all := lw_g (lw_at lw_m3 97 rfl) rfl
theorem q589 : (Jvm.Cond.lays "MainframeDeskModel" "MainframeDeskModel" "latest" "I") ∈ lw_all := lw_g (lw_at lw_m3 98 rfl) rfl
theorem q590 : (Jvm.Cond.soleField "MainframeDeskModel" "latest") ∈ lw_all := lw_g (lw_at lw_m3 99 rfl) rfl
theorem q591 : (Jvm.Cond.lays "MainframeDeskModel" "MainframeDeskModel" "latestCall" "I") ∈ lw_all := lw_g (lw_at lw_m3 100 rfl) rfl
theorem q592 : (Jvm.Cond.soleField "MainframeDeskModel" "latestCall") ∈ lw_all := lw_g (lw_at lw_m3 101 rfl) rfl
theorem q593 : (Jvm.Cond.lays "MainframeDeskModel" "MainframeDeskModel" "latestThing" "I") ∈ lw_all := lw_g (lw_at lw_m3 102 rfl) rfl
theorem q594 : (Jvm.Cond.soleField "MainframeDeskModel" "latestThing") ∈ lw_all := lw_g (lw_at lw_m3 103 rfl) rfl
theorem q595 : (Jvm.Cond.lays "MainframeDeskModel" "MainframeDeskModel" "failed" "I") ∈ lw_all := lw_g (lw_at lw_m3 104 rfl) rfl
theorem q596 : (Jvm.Cond.soleField "MainframeDeskModel" "failed") ∈ lw_all := lw_g (lw_at lw_m3 105 rfl) rfl
theorem q597 : (Jvm.Cond.lays "MainframeDeskModel" "MainframeDeskModel" "refused" "I") ∈ lw_all := lw_g (lw_at lw_m3 106 rfl) rfl
theorem q598 : (Jvm.Cond.soleField "MainframeDeskModel" "refused") ∈ lw_all := lw_g (lw_at lw_m3 107 rfl) rfl
theorem q599 : (Jvm.Cond.lays "MainframeDeskModel" "MainframeDeskModel" "done" "I") ∈ lw_all := lw_g (lw_at lw_m3 108 rfl) rfl
theorem q600 : (Jvm.Cond.soleField "MainframeDeskModel" "done") ∈ lw_all := lw_g (lw_at lw_m3 109 rfl) rfl
theorem q601 : (Jvm.Cond.lays "MainframeDeskModel" "MainframeDeskModel" "way" "I") ∈ lw_all := lw_g (lw_at lw_m3 110 rfl) rfl
theorem q602 : (Jvm.Cond.soleField "MainframeDeskModel" "way") ∈ lw_all := lw_g (lw_at lw_m3 111 rfl) rfl
theorem q603 : (Jvm.Cond.superclass "MainframeDeskModel" "java/lang/Object") ∈ lw_all := lw_g (lw_at lw_m3 112 rfl) rfl
theorem q607 : (Jvm.Cond.instanceMethod ({ cls := "MainframeDeskModel", name := "collect", desc := "(IJ)I" } : Jvm.MethodName)) ∈ lw_all := lw_g (lw_at lw_m3 116 rfl) rfl
theorem q608 : (Jvm.Cond.selects "MainframeDeskModel" ({ cls := "MainframeDeskModel", name := "collect", desc := "(IJ)I" } : Jvm.MethodName) ({ cls := "MainframeDeskModel", name := "collect", desc := "(IJ)I" } : Jvm.MethodName)) ∈ lw_all := lw_g (lw_at lw_m3 117 rfl) rfl
theorem q609 : (Jvm.Cond.code ({ cls := "MainframeDeskModel", name := "collect", desc := "(IJ)I" } : Jvm.MethodName) prog_7_method_4_code (4 : Nat) (Option.some Jvm.ClassFile.FieldType.int)) ∈ lw_all := lw_g (lw_at lw_m3 118 rfl) rfl
theorem q610 : (Jvm.Cond.methodLink "MainframeDeskModel" (37 : Nat) ({ cls := "MainframeDeskModel", name := "below", desc := "(II)Z" } : Jvm.MethodName)) ∈ lw_all := lw_g (lw_at lw_m3 119 rfl) rfl
theorem q611 : (Jvm.Cond.static ({ cls := "MainframeDeskModel", name := "below", desc := "(II)Z" } : Jvm.MethodName)) ∈ lw_all := lw_g (lw_at lw_m3 120 rfl) rfl
theorem q612 : (Jvm.Cond.code ({ cls := "MainframeDeskModel", name := "below", desc := "(II)Z" } : Jvm.MethodName) prog_7_method_3_code (2 : Nat) (Option.some Jvm.ClassFile.FieldType.boolean)) ∈ lw_all := lw_g (lw_at lw_m3 121 rfl) rfl
theorem q614 : (Jvm.Cond.instanceMethod ({ cls := "MainframeDeskModel", name := "answer", desc := "(IJ)I" } : Jvm.MethodName)) ∈ lw_all := lw_g (lw_at lw_m3 123 rfl) rfl
theorem q615 : (Jvm.Cond.selects "MainframeDeskModel" ({ cls := "MainframeDeskModel", name := "answer", desc := "(IJ)I" } : Jvm.MethodName) ({ cls := "MainframeDeskModel", name := "answer", desc := "(IJ)I" } : Jvm.MethodName)) ∈ lw_all := lw_g (lw_at lw_m3 124 rfl) rfl
theorem q616 : (Jvm.Cond.code ({ cls := "MainframeDeskModel", name := "answer", desc := "(IJ)I" } : Jvm.MethodName) prog_7_method_5_code (4 : Nat) (Option.some Jvm.ClassFile.FieldType.int)) ∈ lw_all := lw_g (lw_at lw_m3 125 rfl) rfl
theorem q618 : (Jvm.Cond.instanceMethod ({ cls := "MainframeDeskModel", name := "fails", desc := "(II)I" } : Jvm.MethodName)) ∈ lw_all := lw_g (lw_at lw_m3 127 rfl) rfl
theorem q619 : (Jvm.Cond.selects "MainframeDeskModel" ({ cls := "MainframeDeskModel", name := "fails", desc := "(II)I" } : Jvm.MethodName) ({ cls := "MainframeDeskModel", name := "fails", desc := "(II)I" } : Jvm.MethodName)) ∈ lw_all := lw_g (lw_at lw_m3 128 rfl) rfl
theorem q620 : (Jvm.Cond.code ({ cls := "MainframeDeskModel", name := "fails", desc := "(II)I" } : Jvm.MethodName) prog_7_method_6_code (4 : Nat) (Option.some Jvm.ClassFile.FieldType.int)) ∈ lw_all := lw_g (lw_at lw_m3 129 rfl) rfl
theorem q622 : (Jvm.Cond.instanceMethod ({ cls := "MainframeDeskModel", name := "make", desc := "(I)I" } : Jvm.MethodName)) ∈ lw_all := lw_g (lw_at lw_m3 131 rfl) rfl
theorem q623 : (Jvm.Cond.selects "MainframeDeskModel" ({ cls := "MainframeDeskModel", name := "make", desc := "(I)I" } : Jvm.MethodName) ({ cls := "MainframeDeskModel", name := "make", desc := "(I)I" } : Jvm.MethodName)) ∈ lw_all := lw_g (lw_at lw_m3 132 rfl) rfl
theorem q624 : (Jvm.Cond.code ({ cls := "MainframeDeskModel", name := "make", desc := "(I)I" } : Jvm.MethodName) prog_7_method_7_code (2 : Nat) (Option.some Jvm.ClassFile.FieldType.int)) ∈ lw_all := lw_g (lw_at lw_m3 133 rfl) rfl
theorem q626 : (Jvm.Cond.instanceMethod ({ cls := "MainframeDeskModel", name := "again", desc := "(IIJ)J" } : Jvm.MethodName)) ∈ lw_all := lw_g (lw_at lw_m3 135 rfl) rfl
theorem q627 : (Jvm.Cond.selects "MainframeDeskModel" ({ cls := "MainframeDeskModel", name := "again", desc := "(IIJ)J" } : Jvm.MethodName) ({ cls := "MainframeDeskModel", name := "again", desc := "(IIJ)J" } : Jvm.MethodName)) ∈ lw_all := lw_g (lw_at lw_m3 136 rfl) rfl
theorem q628 : (Jvm.Cond.code ({ cls := "MainframeDeskModel", name := "again", desc := "(IIJ)J" } : Jvm.MethodName) prog_7_method_11_code (5 : Nat) (Option.some Jvm.ClassFile.FieldType.long)) ∈ lw_all := lw_g (lw_at lw_m3 137 rfl) rfl
theorem q629 : (Jvm.Cond.methodLink "MainframeDeskModel" (57 : Nat) ({ cls := "MainframeDeskModel", name := "reckoned", desc := "(IIJ)J" } : Jvm.MethodName)) ∈ lw_all := lw_g (lw_at lw_m3 138 rfl) rfl
theorem q630 : (Jvm.Cond.privateMethod ({ cls := "MainframeDeskModel", name := "reckoned", desc := "(IIJ)J" } : Jvm.MethodName)) ∈ lw_tbl := lw_at lw_m3 139 rfl
theorem q631 : (Jvm.Cond.instanceMethod ({ cls := "MainframeDeskModel", name := "reckoned", desc := "(IIJ)J" } : Jvm.MethodName)) ∈ lw_all := lw_g (lw_at lw_m3 140 rfl) rfl
theorem q632 : (Jvm.Cond.code ({ cls := "MainframeDeskModel", name := "reckoned", desc := "(IIJ)J" } : Jvm.MethodName) prog_7_method_10_code (7 : Nat) (Option.some Jvm.ClassFile.FieldType.long)) ∈ lw_all := lw_g (lw_at lw_m3 141 rfl) rfl
theorem q633 : (Jvm.Cond.methodLink "MainframeDeskModel" (50 : Nat) ({ cls := "MainframeDeskModel", name := "refusal", desc := "(IIJ)I" } : Jvm.MethodName)) ∈ lw_all := lw_g (lw_at lw_m3 142 rfl) rfl
theorem q634 : (Jvm.Cond.privateMethod ({ cls := "MainframeDeskModel", name := "refusal", desc := "(IIJ)I" } : Jvm.MethodName)) ∈ lw_tbl := lw_at lw_m3 143 rfl
theorem q635 : (Jvm.Cond.instanceMethod ({ cls := "MainframeDeskModel", name := "refusal", desc := "(IIJ)I" } : Jvm.MethodName)) ∈ lw_all := lw_g (lw_at lw_m3 144 rfl) rfl
theorem q636 : (Jvm.Cond.code ({ cls := "MainframeDeskModel", name := "refusal", desc := "(IIJ)I" } : Jvm.MethodName) prog_7_method_9_code (5 : Nat) (Option.some Jvm.ClassFile.FieldType.int)) ∈ lw_all := lw_g (lw_at lw_m3 145 rfl) rfl
theorem q637 : (Jvm.Cond.constantLong "MainframeDeskModel" (44 : Nat) (1000000 : Int64)) ∈ lw_all := lw_g (lw_at lw_m3 146 rfl) rfl
theorem q638 : (Jvm.Cond.methodLink "MainframeDeskModel" (46 : Nat) ({ cls := "MainframeDeskModel", name := "rowOf", desc := "(I)I" } : Jvm.MethodName)) ∈ lw_all := lw_g (lw_at lw_m3 147 rfl) rfl
theorem q639 : (Jvm.Cond.static ({ cls := "MainframeDeskModel", name := "rowOf", desc := "(I)I" } : Jvm.MethodName)) ∈ lw_all := lw_g (lw_at lw_m3 148 rfl) rfl
theorem q640 : (Jvm.Cond.code ({ cls := "MainframeDeskModel", name := "rowOf", desc := "(I)I" } : Jvm.MethodName) prog_7_method_8_code (1 : Nat) (Option.some Jvm.ClassFile.FieldType.int)) ∈ lw_all := lw_g (lw_at lw_m3 149 rfl) rfl
theorem q642 : (Jvm.Cond.instanceMethod ({ cls := "MainframeDeskModel", name := "call", desc := "(IIJ)J" } : Jvm.MethodName)) ∈ lw_all := lw_g (lw_at lw_m3 151 rfl) rfl
theorem q643 : (Jvm.Cond.selects "MainframeDeskModel" ({ cls := "MainframeDeskModel", name := "call", desc := "(IIJ)J" } : Jvm.MethodName) ({ cls := "MainframeDeskModel", name := "call", desc := "(IIJ)J" } : Jvm.MethodName)) ∈ lw_all := lw_g (lw_at lw_m3 152 rfl) rfl
theorem q644 : (Jvm.Cond.code ({ cls := "MainframeDeskModel", name := "call", desc := "(IIJ)J" } : Jvm.MethodName) prog_7_method_12_code (8 : Nat) (Option.some Jvm.ClassFile.FieldType.long)) ∈ lw_all := lw_g (lw_at lw_m3 153 rfl) rfl
theorem q646 : (Jvm.Cond.instanceMethod ({ cls := "MainframeDeskModel", name := "told", desc := "(I)I" } : Jvm.MethodName)) ∈ lw_all := lw_g (lw_at lw_m3 155 rfl) rfl
theorem q647 : (Jvm.Cond.selects "MainframeDeskModel" ({ cls := "MainframeDeskModel", name := "told", desc := "(I)I" } : Jvm.MethodName) ({ cls := "MainframeDeskModel", name := "told", desc := "(I)I" } : Jvm.MethodName)) ∈ lw_all := lw_g (lw_at lw_m3 156 rfl) rfl
theorem q648 : (Jvm.Cond.code ({ cls := "MainframeDeskModel", name := "told", desc := "(I)I" } : Jvm.MethodName) prog_7_method_13_code (2 : Nat) (Option.some Jvm.ClassFile.FieldType.int)) ∈ lw_all := lw_g (lw_at lw_m3 157 rfl) rfl
theorem q650 : (Jvm.Cond.instanceMethod ({ cls := "MainframeDeskModel", name := "drop", desc := "(I)Z" } : Jvm.MethodName)) ∈ lw_all := lw_g (lw_at lw_m3 159 rfl) rfl
theorem q651 : (Jvm.Cond.selects "MainframeDeskModel" ({ cls := "MainframeDeskModel", name := "drop", desc := "(I)Z" } : Jvm.MethodName) ({ cls := "MainframeDeskModel", name := "drop", desc := "(I)Z" } : Jvm.MethodName)) ∈ lw_all := lw_g (lw_at lw_m3 160 rfl) rfl
theorem q652 : (Jvm.Cond.code ({ cls := "MainframeDeskModel", name := "drop", desc := "(I)Z" } : Jvm.MethodName) prog_7_method_14_code (2 : Nat) (Option.some Jvm.ClassFile.FieldType.boolean)) ∈ lw_all := lw_g (lw_at lw_m3 161 rfl) rfl
theorem q654 : (Jvm.Cond.instanceMethod ({ cls := "MainframeDeskModel", name := "numbers", desc := "(I)I" } : Jvm.MethodName)) ∈ lw_all := lw_g (lw_at lw_m3 163 rfl) rfl
theorem q655 : (Jvm.Cond.selects "MainframeDeskModel" ({ cls := "MainframeDeskModel", name := "numbers", desc := "(I)I" } : Jvm.MethodName) ({ cls := "MainframeDeskModel", name := "numbers", desc := "(I)I" } : Jvm.MethodName)) ∈ lw_all := lw_g (lw_at lw_m3 164 rfl) rfl
theorem q656 : (Jvm.Cond.code ({ cls := "MainframeDeskModel", name := "numbers", desc := "(I)I" } : Jvm.MethodName) prog_7_method_15_code (4 : Nat) (Option.some Jvm.ClassFile.FieldType.int)) ∈ lw_all := lw_g (lw_at lw_m3 165 rfl) rfl
theorem q663 : (Jvm.Cond.castable "MainframeDeskModel" "java/lang/Object") ∈ lw_tbl := lw_at lw_m3 172 rfl
theorem in_X2 : ∀ w ∈ wsX20, w ∈ lw_all := lw_in wsX20 [571, 573, 575, 577, 579, 581, 583, 585, 587, 589, 591, 593, 595, 597, 599, 601] (by decide +kernel) (by decide +kernel)
end
section
/-! the law's own entry -/
set_option maxRecDepth 100000
abbrev cL_law : ByteArray := code
theorem dL_law_0 : decode cL_law 0 = .ok (.new 7, 3) := by decide +kernel
theorem dL_law_3 : decode cL_law 3 = .ok (.dup, 1) := by decide +kernel
theorem dL_law_4 : decode cL_law 4 = .ok (.invokespecial 9, 3) := by decide +kernel
theorem dL_law_7 : decode cL_law 7 = .ok (.astore_n 1, 1) := by decide +kernel
theorem dL_law_8 : decode cL_law 8 = .ok (.new 10, 3) := by decide +kernel
theorem dL_law_11 : decode cL_law 11 = .ok (.dup, 1) := by decide +kernel
theorem dL_law_12 : decode cL_law 12 = .ok (.invokespecial 12, 3) := by decide +kernel
theorem dL_law_15 : decode cL_law 15 = .ok (.astore_n 2, 1) := by decide +kernel
theorem dL_law_16 : decode cL_law 16 = .ok (.iconst 0, 1) := by decide +kernel
theorem dL_law_17 : decode cL_law 17 = .ok (.istore_n 3, 1) := by decide +kernel
theorem dL_law_18 : decode cL_law 18 = .ok (.iload_n 3, 1) := by decide +kernel
theorem dL_law_19 : decode cL_law 19 = .ok (.aload_n 0, 1) := by decide +kernel
theorem dL_law_20 : decode cL_law 20 = .ok (.arraylength, 1) := by decide +kernel
theorem dL_law_21 : decode cL_law 21 = .ok (.iconst 5, 1) := by decide +kernel
theorem dL_law_22 : decode cL_law 22 = .ok (.isub, 1) := by decide +kernel
theorem dL_law_23 : decode cL_law 23 = .ok (.if_icmp .gt 466, 3) := by decide +kernel
theorem dL_law_26 : decode cL_law 26 = .ok (.aload_n 0, 1) := by decide +kernel
theorem dL_law_27 : decode cL_law 27 = .ok (.iload_n 3, 1) := by decide +kernel
theorem dL_law_28 : decode cL_law 28 = .ok (.iaload, 1) := by decide +kernel
theorem dL_law_29 : decode cL_law 29 = .ok (.bipush 15, 2) := by decide +kernel
theorem dL_law_31 : decode cL_law 31 = .ok (.iand, 1) := by decide +kernel
theorem dL_law_32 : decode cL_law 32 = .ok (.tableswitch 451 0 8 #[52, 115, 178, 211, 234, 308, 331, 354, 377], 52) := by decide +kernel
theorem dL_law_84 : decode cL_law 84 = .ok (.aload_n 1, 1) := by decide +kernel
theorem dL_law_85 : decode cL_law 85 = .ok (.aload_n 0, 1) := by decide +kernel
theorem dL_law_86 : decode cL_law 86 = .ok (.iload_n 3, 1) := by decide +kernel
theorem dL_law_87 : decode cL_law 87 = .ok (.iconst 1, 1) := by decide +kernel
theorem dL_law_88 : decode cL_law 88 = .ok (.iadd, 1) := by decide +kernel
theorem dL_law_89 : decode cL_law 89 = .ok (.iaload, 1) := by decide +kernel
theorem dL_law_90 : decode cL_law 90 = .ok (.aload_n 0, 1) := by decide +kernel
theorem dL_law_91 : decode cL_law 91 = .ok (.iload_n 3, 1) := by decide +kernel
theorem dL_law_92 : decode cL_law 92 = .ok (.iconst 2, 1) := by decide +kernel
theorem dL_law_93 : decode cL_law 93 = .ok (.iadd, 1) := by decide +kernel
theorem dL_law_94 : decode cL_law 94 = .ok (.iaload, 1) := by decide +kernel
theorem dL_law_95 : decode cL_law 95 = .ok (.i2l, 1) := by decide +kernel
theorem dL_law_96 : decode cL_law 96 = .ok (.bipush 32, 2) := by decide +kernel
theorem dL_law_98 : decode cL_law 98 = .ok (.lshl, 1) := by decide +kernel
theorem dL_law_99 : decode cL_law 99 = .ok (.aload_n 0, 1) := by decide +kernel
theorem dL_law_100 : decode cL_law 100 = .ok (.iload_n 3, 1) := by decide +kernel
theorem dL_law_101 : decode cL_law 101 = .ok (.iconst 3, 1) := by decide +kernel
theorem dL_law_102 : decode cL_law 102 = .ok (.iadd, 1) := by decide +kernel
theorem dL_law_103 : decode cL_law 103 = .ok (.iaload, 1) := by decide +kernel
theorem dL_law_104 : decode cL_law 104 = .ok (.i2l, 1) := by decide +kernel
theorem dL_law_105 : decode cL_law 105 = .ok (.ldc2_w 13, 3) := by decide +kernel
theorem dL_law_108 : decode cL_law 108 = .ok (.land, 1) := by decide +kernel
theorem dL_law_109 : decode cL_law 109 = .ok (.lor, 1) := by decide +kernel
theorem dL_law_110 : decode cL_law 110 = .ok (.invokevirtual 15, 3) := by decide +kernel
theorem dL_law_113 : decode cL_law 113 = .ok (.aload_n 2, 1) := by decide +kernel
theorem dL_law_114 : decode cL_law 114 = .ok (.aload_n 0, 1) := by decide +kernel
theorem dL_law_115 : decode cL_law 115 = .ok (.iload_n 3, 1) := by decide +kernel
theorem dL_law_116 : decode cL_law 116 = .ok (.iconst 1, 1) := by decide +kernel
theorem dL_law_117 : decode cL_law 117 = .ok (.iadd, 1) := by decide +kernel
theorem dL_law_118 : decode cL_law 118 = .ok (.iaload, 1) := by decide +kernel
theorem dL_law_119 : decode cL_law 119 = .ok (.aload_n 0, 1) := by decide +kernel
theorem dL_law_120 : decode cL_law 120 = .ok (.iload_n 3, 1) := by decide +kernel
theorem dL_law_121 : decode cL_law 121 = .ok (.iconst 2, 1) := by decide +kernel
theorem dL_law_122 : decode cL_law 122 = .ok (.iadd, 1) := by decide +kernel
theorem dL_law_123 : decode cL_law 123 = .ok (.iaload, 1) := by decide +kernel
theorem dL_law_124 : decode cL_law 124 = .ok (.i2l, 1) := by decide +kernel
theorem dL_law_125 : decode cL_law 125 = .ok (.bipush 32, 2) := by decide +kernel
theorem dL_law_127 : decode cL_law 127 = .ok (.lshl, 1) := by decide +kernel
theorem dL_law_128 : decode cL_law 128 = .ok (.aload_n 0, 1) := by decide +kernel
theorem dL_law_129 : decode cL_law 129 = .ok (.iload_n 3, 1) := by decide +kernel
theorem dL_law_130 : decode cL_law 130 = .ok (.iconst 3, 1) := by decide +kernel
theorem dL_law_131 : decode cL_law 131 = .ok (.iadd, 1) := by decide +kernel
theorem dL_law_132 : decode cL_law 132 = .ok (.iaload, 1) := by decide +kernel
theorem dL_law_133 : decode cL_law 133 = .ok (.i2l, 1) := by decide +kernel
theorem dL_law_134 : decode cL_law 134 = .ok (.ldc2_w 13, 3) := by decide +kernel
theorem dL_law_137 : decode cL_law 137 = .ok (.land, 1) := by decide +kernel
theorem dL_law_138 : decode cL_law 138 = .ok (.lor, 1) := by decide +kernel
theorem dL_law_139 : decode cL_law 139 = .ok (.invokevirtual 19, 3) := by decide +kernel
theorem dL_law_142 : decode cL_law 142 = .ok (.if_icmp .eq 341, 3) := by decide +kernel
theorem dL_law_145 : decode cL_law 145 = .ok (.iconst 0, 1) := by decide +kernel
theorem dL_law_146 : decode cL_law 146 = .ok (.ireturn, 1) := by decide +kernel
theorem dL_law_147 : decode cL_law 147 = .ok (.aload_n 1, 1) := by decide +kernel
theorem dL_law_148 : decode cL_law 148 = .ok (.aload_n 0, 1) := by decide +kernel
theorem dL_law_149 : decode cL_law 149 = .ok (.iload_n 3, 1) := by decide +kernel
theorem dL_law_150 : decode cL_law 150 = .ok (.iconst 1, 1) := by decide +kernel
theorem dL_law_151 : decode cL_law 151 = .ok (.iadd, 1) := by decide +kernel
theorem dL_law_152 : decode cL_law 152 = .ok (.iaload, 1) := by decide +kernel
theorem dL_law_153 : decode cL_law 153 = .ok (.aload_n 0, 1) := by decide +kernel
theorem dL_law_154 : decode cL_law 154 = .ok (.iload_n 3, 1) := by decide +kernel
theorem dL_law_155 : decode cL_law 155 = .ok (.iconst 2, 1) := by decide +kernel
theorem dL_law_156 : decode cL_law 156 = .ok (.iadd, 1) := by decide +kernel
theorem dL_law_157 : decode cL_law 157 = .ok (.iaload, 1) := by decide +kernel
theorem dL_law_158 : decode cL_law 158 = .ok (.i2l, 1) := by decide +kernel
theorem dL_law_159 : decode cL_law 159 = .ok (.bipush 32, 2) := by decide +kernel
theorem dL_law_161 : decode cL_law 161 = .ok (.lshl, 1) := by decide +kernel
theorem dL_law_162 : decode cL_law 162 = .ok (.aload_n 0, 1) := by decide +kernel
theorem dL_law_163 : decode cL_law 163 = .ok (.iload_n 3, 1) := by decide +kernel
theorem dL_law_164 : decode cL_law 164 = .ok (.iconst 3, 1) := by decide +kernel
theorem dL_law_165 : decode cL_law 165 = .ok (.iadd, 1) := by decide +kernel
theorem dL_law_166 : decode cL_law 166 = .ok (.iaload, 1) := by decide +kernel
theorem dL_law_167 : decode cL_law 167 = .ok (.i2l, 1) := by decide +kernel
theorem dL_law_168 : decode cL_law 168 = .ok (.ldc2_w 13, 3) := by decide +kernel
theorem dL_law_171 : decode cL_law 171 = .ok (.land, 1) := by decide +kernel
theorem dL_law_172 : decode cL_law 172 = .ok (.lor, 1) := by decide +kernel
theorem dL_law_173 : decode cL_law 173 = .ok (.invokevirtual 20, 3) := by decide +kernel
theorem dL_law_176 : decode cL_law 176 = .ok (.aload_n 2, 1) := by decide +kernel
theorem dL_law_177 : decode cL_law 177 = .ok (.aload_n 0, 1) := by decide +kernel
theorem dL_law_178 : decode cL_law 178 = .ok (.iload_n 3, 1) := by decide +kernel
theorem dL_law_179 : decode cL_law 179 = .ok (.iconst 1, 1) := by decide +kernel
theorem dL_law_180 : decode cL_law 180 = .ok (.iadd, 1) := by decide +kernel
theorem dL_law_181 : decode cL_law 181 = .ok (.iaload, 1) := by decide +kernel
theorem dL_law_182 : decode cL_law 182 = .ok (.aload_n 0, 1) := by decide +kernel
theorem dL_law_183 : decode cL_law 183 = .ok (.iload_n 3, 1) := by decide +kernel
theorem dL_law_184 : decode cL_law 184 = .ok (.iconst 2, 1) := by decide +kernel
theorem dL_law_185 : decode cL_law 185 = .ok (.iadd, 1) := by decide +kernel
theorem dL_law_186 : decode cL_law 186 = .ok (.iaload, 1) := by decide +kernel
theorem dL_law_187 : decode cL_law 187 = .ok (.i2l, 1) := by decide +kernel
theorem dL_law_188 : decode cL_law 188 = .ok (.bipush 32, 2) := by decide +kernel
theorem dL_law_190 : decode cL_law 190 = .ok (.lshl, 1) := by decide +kernel
theorem dL_law_191 : decode cL_law 191 = .ok (.aload_n 0, 1) := by decide +kernel
theorem dL_law_192 : decode cL_law 192 = .ok (.iload_n 3, 1) := by decide +kernel
theorem dL_law_193 : decode cL_law 193 = .ok (.iconst 3, 1) := by decide +kernel
theorem dL_law_194 : decode cL_law 194 = .ok (.iadd, 1) := by decide +kernel
theorem dL_law_195 : decode cL_law 195 = .ok (.iaload, 1) := by decide +kernel
theorem dL_law_196 : decode cL_law 196 = .ok (.i2l, 1) := by decide +kernel
theorem dL_law_197 : decode cL_law 197 = .ok (.ldc2_w 13, 3) := by decide +kernel
theorem dL_law_200 : decode cL_law 200 = .ok (.land, 1) := by decide +kernel
theorem dL_law_201 : decode cL_law 201 = .ok (.lor, 1) := by decide +kernel
theorem dL_law_202 : decode cL_law 202 = .ok (.invokevirtual 23, 3) := by decide +kernel
theorem dL_law_205 : decode cL_law 205 = .ok (.if_icmp .eq 278, 3) := by decide +kernel
theorem dL_law_208 : decode cL_law 208 = .ok (.iconst 0, 1) := by decide +kernel
theorem dL_law_209 : decode cL_law 209 = .ok (.ireturn, 1) := by decide +kernel
theorem dL_law_210 : decode cL_law 210 = .ok (.aload_n 1, 1) := by decide +kernel
theorem dL_law_211 : decode cL_law 211 = .ok (.aload_n 0, 1) := by decide +kernel
theorem dL_law_212 : decode cL_law 212 = .ok (.iload_n 3, 1) := by decide +kernel
theorem dL_law_213 : decode cL_law 213 = .ok (.iconst 1, 1) := by decide +kernel
theorem dL_law_214 : decode cL_law 214 = .ok (.iadd, 1) := by decide +kernel
theorem dL_law_215 : decode cL_law 215 = .ok (.iaload, 1) := by decide +kernel
theorem dL_law_216 : decode cL_law 216 = .ok (.aload_n 0, 1) := by decide +kernel
theorem dL_law_217 : decode cL_law 217 = .ok (.iload_n 3, 1) := by decide +kernel
theorem dL_law_218 : decode cL_law 218 = .ok (.iconst 2, 1) := by decide +kernel
theorem dL_law_219 : decode cL_law 219 = .ok (.iadd, 1) := by decide +kernel
theorem dL_law_220 : decode cL_law 220 = .ok (.iaload, 1) := by decide +kernel
theorem dL_law_221 : decode cL_law 221 = .ok (.invokevirtual 24, 3) := by decide +kernel
theorem dL_law_224 : decode cL_law 224 = .ok (.aload_n 2, 1) := by decide +kernel
theorem dL_law_225 : decode cL_law 225 = .ok (.aload_n 0, 1) := by decide +kernel
theorem dL_law_226 : decode cL_law 226 = .ok (.iload_n 3, 1) := by decide +kernel
theorem dL_law_227 : decode cL_law 227 = .ok (.iconst 1, 1) := by decide +kernel
theorem dL_law_228 : decode cL_law 228 = .ok (.iadd, 1) := by decide +kernel
theorem dL_law_229 : decode cL_law 229 = .ok (.iaload, 1) := by decide +kernel
theorem dL_law_230 : decode cL_law 230 = .ok (.aload_n 0, 1) := by decide +kernel
theorem dL_law_231 : decode cL_law 231 = .ok (.iload_n 3, 1) := by decide +kernel
theorem dL_law_232 : decode cL_law 232 = .ok (.iconst 2, 1) := by decide +kernel
theorem dL_law_233 : decode cL_law 233 = .ok (.iadd, 1) := by decide +kernel
theorem dL_law_234 : decode cL_law 234 = .ok (.iaload, 1) := by decide +kernel
theorem dL_law_235 : decode cL_law 235 = .ok (.invokevirtual 28, 3) := by decide +kernel
theorem dL_law_238 : decode cL_law 238 = .ok (.if_icmp .eq 245, 3) := by decide +kernel
theorem dL_law_241 : decode cL_law 241 = .ok (.iconst 0, 1) := by decide +kernel
theorem dL_law_242 : decode cL_law 242 = .ok (.ireturn, 1) := by decide +kernel
theorem dL_law_243 : decode cL_law 243 = .ok (.aload_n 1, 1) := by decide +kernel
theorem dL_law_244 : decode cL_law 244 = .ok (.aload_n 0, 1) := by decide +kernel
theorem dL_law_245 : decode cL_law 245 = .ok (.iload_n 3, 1) := by decide +kernel
theorem dL_law_246 : decode cL_law 246 = .ok (.iconst 1, 1) := by decide +kernel
theorem dL_law_247 : decode cL_law 247 = .ok (.iadd, 1) := by decide +kernel
theorem dL_law_248 : decode cL_law 248 = .ok (.iaload, 1) := by decide +kernel
theorem dL_law_249 : decode cL_law 249 = .ok (.invokevirtual 29, 3) := by decide +kernel
theorem dL_law_252 : decode cL_law 252 = .ok (.aload_n 2, 1) := by decide +kernel
theorem dL_law_253 : decode cL_law 253 = .ok (.aload_n 0, 1) := by decide +kernel
theorem dL_law_254 : decode cL_law 254 = .ok (.iload_n 3, 1) := by decide +kernel
theorem dL_law_255 : decode cL_law 255 = .ok (.iconst 1, 1) := by decide +kernel
theorem dL_law_256 : decode cL_law 256 = .ok (.iadd, 1) := by decide +kernel
theorem dL_law_257 : decode cL_law 257 = .ok (.iaload, 1) := by decide +kernel
theorem dL_law_258 : decode cL_law 258 = .ok (.invokevirtual 33, 3) := by decide +kernel
theorem dL_law_261 : decode cL_law 261 = .ok (.if_icmp .eq 222, 3) := by decide +kernel
theorem dL_law_264 : decode cL_law 264 = .ok (.iconst 0, 1) := by decide +kernel
theorem dL_law_265 : decode cL_law 265 = .ok (.ireturn, 1) := by decide +kernel
theorem dL_law_266 : decode cL_law 266 = .ok (.aload_n 1, 1) := by decide +kernel
theorem dL_law_267 : decode cL_law 267 = .ok (.aload_n 0, 1) := by decide +kernel
theorem dL_law_268 : decode cL_law 268 = .ok (.iload_n 3, 1) := by decide +kernel
theorem dL_law_269 : decode cL_law 269 = .ok (.iconst 1, 1) := by decide +kernel
theorem dL_law_270 : decode cL_law 270 = .ok (.iadd, 1) := by decide +kernel
theorem dL_law_271 : decode cL_law 271 = .ok (.iaload, 1) := by decide +kernel
theorem dL_law_272 : decode cL_law 272 = .ok (.aload_n 0, 1) := by decide +kernel
theorem dL_law_273 : decode cL_law 273 = .ok (.iload_n 3, 1) := by decide +kernel
theorem dL_law_274 : decode cL_law 274 = .ok (.iconst 2, 1) := by decide +kernel
theorem dL_law_275 : decode cL_law 275 = .ok (.iadd, 1) := by decide +kernel
theorem dL_law_276 : decode cL_law 276 = .ok (.iaload, 1) := by decide +kernel
theorem dL_law_277 : decode cL_law 277 = .ok (.aload_n 0, 1) := by decide +kernel
theorem dL_law_278 : decode cL_law 278 = .ok (.iload_n 3, 1) := by decide +kernel
theorem dL_law_279 : decode cL_law 279 = .ok (.iconst 3, 1) := by decide +kernel
theorem dL_law_280 : decode cL_law 280 = .ok (.iadd, 1) := by decide +kernel
theorem dL_law_281 : decode cL_law 281 = .ok (.iaload, 1) := by decide +kernel
theorem dL_law_282 : decode cL_law 282 = .ok (.i2l, 1) := by decide +kernel
theorem dL_law_283 : decode cL_law 283 = .ok (.bipush 32, 2) := by decide +kernel
theorem dL_law_285 : decode cL_law 285 = .ok (.lshl, 1) := by decide +kernel
theorem dL_law_286 : decode cL_law 286 = .ok (.aload_n 0, 1) := by decide +kernel
theorem dL_law_287 : decode cL_law 287 = .ok (.iload_n 3, 1) := by decide +kernel
theorem dL_law_288 : decode cL_law 288 = .ok (.iconst 4, 1) := by decide +kernel
theorem dL_law_289 : decode cL_law 289 = .ok (.iadd, 1) := by decide +kernel
theorem dL_law_290 : decode cL_law 290 = .ok (.iaload, 1) := by decide +kernel
theorem dL_law_291 : decode cL_law 291 = .ok (.i2l, 1) := by decide +kernel
theorem dL_law_292 : decode cL_law 292 = .ok (.ldc2_w 13, 3) := by decide +kernel
theorem dL_law_295 : decode cL_law 295 = .ok (.land, 1) := by decide +kernel
theorem dL_law_296 : decode cL_law 296 = .ok (.lor, 1) := by decide +kernel
theorem dL_law_297 : decode cL_law 297 = .ok (.invokevirtual 34, 3) := by decide +kernel
theorem dL_law_300 : decode cL_law 300 = .ok (.aload_n 2, 1) := by decide +kernel
theorem dL_law_301 : decode cL_law 301 = .ok (.aload_n 0, 1) := by decide +kernel
theorem dL_law_302 : decode cL_law 302 = .ok (.iload_n 3, 1) := by decide +kernel
theorem dL_law_303 : decode cL_law 303 = .ok (.iconst 1, 1) := by decide +kernel
theorem dL_law_304 : decode cL_law 304 = .ok (.iadd, 1) := by decide +kernel
theorem dL_law_305 : decode cL_law 305 = .ok (.iaload, 1) := by decide +kernel
theorem dL_law_306 : decode cL_law 306 = .ok (.aload_n 0, 1) := by decide +kernel
theorem dL_law_307 : decode cL_law 307 = .ok (.iload_n 3, 1) := by decide +kernel
theorem dL_law_308 : decode cL_law 308 = .ok (.iconst 2, 1) := by decide +kernel
theorem dL_law_309 : decode cL_law 309 = .ok (.iadd, 1) := by decide +kernel
theorem dL_law_310 : decode cL_law 310 = .ok (.iaload, 1) := by decide +kernel
theorem dL_law_311 : decode cL_law 311 = .ok (.aload_n 0, 1) := by decide +kernel
theorem dL_law_312 : decode cL_law 312 = .ok (.iload_n 3, 1) := by decide +kernel
theorem dL_law_313 : decode cL_law 313 = .ok (.iconst 3, 1) := by decide +kernel
theorem dL_law_314 : decode cL_law 314 = .ok (.iadd, 1) := by decide +kernel
theorem dL_law_315 : decode cL_law 315 = .ok (.iaload, 1) := by decide +kernel
theorem dL_law_316 : decode cL_law 316 = .ok (.i2l, 1) := by decide +kernel
theorem dL_law_317 : decode cL_law 317 = .ok (.bipush 32, 2) := by decide +kernel
theorem dL_law_319 : decode cL_law 319 = .ok (.lshl, 1) := by decide +kernel
theorem dL_law_320 : decode cL_law 320 = .ok (.aload_n 0, 1) := by decide +kernel
theorem dL_law_321 : decode cL_law 321 = .ok (.iload_n 3, 1) := by decide +kernel
theorem dL_law_322 : decode cL_law 322 = .ok (.iconst 4, 1) := by decide +kernel
theorem dL_law_323 : decode cL_law 323 = .ok (.iadd, 1) := by decide +kernel
theorem dL_law_324 : decode cL_law 324 = .ok (.iaload, 1) := by decide +kernel
theorem dL_law_325 : decode cL_law 325 = .ok (.i2l, 1) := by decide +kernel
theorem dL_law_326 : decode cL_law 326 = .ok (.ldc2_w 13, 3) := by decide +kernel
theorem dL_law_329 : decode cL_law 329 = .ok (.land, 1) := by decide +kernel
theorem dL_law_330 : decode cL_law 330 = .ok (.lor, 1) := by decide +kernel
theorem dL_law_331 : decode cL_law 331 = .ok (.invokevirtual 38, 3) := by decide +kernel
theorem dL_law_334 : decode cL_law 334 = .ok (.lcmp, 1) := by decide +kernel
theorem dL_law_335 : decode cL_law 335 = .ok (.ifCond .eq 148, 3) := by decide +kernel
theorem dL_law_338 : decode cL_law 338 = .ok (.iconst 0, 1) := by decide +kernel
theorem dL_law_339 : decode cL_law 339 = .ok (.ireturn, 1) := by decide +kernel
theorem dL_law_340 : decode cL_law 340 = .ok (.aload_n 1, 1) := by decide +kernel
theorem dL_law_341 : decode cL_law 341 = .ok (.aload_n 0, 1) := by decide +kernel
theorem dL_law_342 : decode cL_law 342 = .ok (.iload_n 3, 1) := by decide +kernel
theorem dL_law_343 : decode cL_law 343 = .ok (.iconst 1, 1) := by decide +kernel
theorem dL_law_344 : decode cL_law 344 = .ok (.iadd, 1) := by decide +kernel
theorem dL_law_345 : decode cL_law 345 = .ok (.iaload, 1) := by decide +kernel
theorem dL_law_346 : decode cL_law 346 = .ok (.invokevirtual 39, 3) := by decide +kernel
theorem dL_law_349 : decode cL_law 349 = .ok (.aload_n 2, 1) := by decide +kernel
theorem dL_law_350 : decode cL_law 350 = .ok (.aload_n 0, 1) := by decide +kernel
theorem dL_law_351 : decode cL_law 351 = .ok (.iload_n 3, 1) := by decide +kernel
theorem dL_law_352 : decode cL_law 352 = .ok (.iconst 1, 1) := by decide +kernel
theorem dL_law_353 : decode cL_law 353 = .ok (.iadd, 1) := by decide +kernel
theorem dL_law_354 : decode cL_law 354 = .ok (.iaload, 1) := by decide +kernel
theorem dL_law_355 : decode cL_law 355 = .ok (.invokevirtual 42, 3) := by decide +kernel
theorem dL_law_358 : decode cL_law 358 = .ok (.if_icmp .eq 125, 3) := by decide +kernel
theorem dL_law_361 : decode cL_law 361 = .ok (.iconst 0, 1) := by decide +kernel
theorem dL_law_362 : decode cL_law 362 = .ok (.ireturn, 1) := by decide +kernel
theorem dL_law_363 : decode cL_law 363 = .ok (.aload_n 1, 1) := by decide +kernel
theorem dL_law_364 : decode cL_law 364 = .ok (.aload_n 0, 1) := by decide +kernel
theorem dL_law_365 : decode cL_law 365 = .ok (.iload_n 3, 1) := by decide +kernel
theorem dL_law_366 : decode cL_law 366 = .ok (.iconst 1, 1) := by decide +kernel
theorem dL_law_367 : decode cL_law 367 = .ok (.iadd, 1) := by decide +kernel
theorem dL_law_368 : decode cL_law 368 = .ok (.iaload, 1) := by decide +kernel
theorem dL_law_369 : decode cL_law 369 = .ok (.invokevirtual 43, 3) := by decide +kernel
theorem dL_law_372 : decode cL_law 372 = .ok (.aload_n 2, 1) := by decide +kernel
theorem dL_law_373 : decode cL_law 373 = .ok (.aload_n 0, 1) := by decide +kernel
theorem dL_law_374 : decode cL_law 374 = .ok (.iload_n 3, 1) := by decide +kernel
theorem dL_law_375 : decode cL_law 375 = .ok (.iconst 1, 1) := by decide +kernel
theorem dL_law_376 : decode cL_law 376 = .ok (.iadd, 1) := by decide +kernel
theorem dL_law_377 : decode cL_law 377 = .ok (.iaload, 1) := by decide +kernel
theorem dL_law_378 : decode cL_law 378 = .ok (.invokevirtual 47, 3) := by decide +kernel
theorem dL_law_381 : decode cL_law 381 = .ok (.if_icmp .eq 102, 3) := by decide +kernel
theorem dL_law_384 : decode cL_law 384 = .ok (.iconst 0, 1) := by decide +kernel
theorem dL_law_385 : decode cL_law 385 = .ok (.ireturn, 1) := by decide +kernel
theorem dL_law_386 : decode cL_law 386 = .ok (.aload_n 1, 1) := by decide +kernel
theorem dL_law_387 : decode cL_law 387 = .ok (.aload_n 0, 1) := by decide +kernel
theorem dL_law_388 : decode cL_law 388 = .ok (.iload_n 3, 1) := by decide +kernel
theorem dL_law_389 : decode cL_law 389 = .ok (.iconst 1, 1) := by decide +kernel
theorem dL_law_390 : decode cL_law 390 = .ok (.iadd, 1) := by decide +kernel
theorem dL_law_391 : decode cL_law 391 = .ok (.iaload, 1) := by decide +kernel
theorem dL_law_392 : decode cL_law 392 = .ok (.invokevirtual 48, 3) := by decide +kernel
theorem dL_law_395 : decode cL_law 395 = .ok (.aload_n 2, 1) := by decide +kernel
theorem dL_law_396 : decode cL_law 396 = .ok (.aload_n 0, 1) := by decide +kernel
theorem dL_law_397 : decode cL_law 397 = .ok (.iload_n 3, 1) := by decide +kernel
theorem dL_law_398 : decode cL_law 398 = .ok (.iconst 1, 1) := by decide +kernel
theorem dL_law_399 : decode cL_law 399 = .ok (.iadd, 1) := by decide +kernel
theorem dL_law_400 : decode cL_law 400 = .ok (.iaload, 1) := by decide +kernel
theorem dL_law_401 : decode cL_law 401 = .ok (.invokevirtual 51, 3) := by decide +kernel
theorem dL_law_404 : decode cL_law 404 = .ok (.if_icmp .eq 79, 3) := by decide +kernel
theorem dL_law_407 : decode cL_law 407 = .ok (.iconst 0, 1) := by decide +kernel
theorem dL_law_408 : decode cL_law 408 = .ok (.ireturn, 1) := by decide +kernel
theorem dL_law_409 : decode cL_law 409 = .ok (.aload_n 1, 1) := by decide +kernel
theorem dL_law_410 : decode cL_law 410 = .ok (.aload_n 0, 1) := by decide +kernel
theorem dL_law_411 : decode cL_law 411 = .ok (.iload_n 3, 1) := by decide +kernel
theorem dL_law_412 : decode cL_law 412 = .ok (.iconst 1, 1) := by decide +kernel
theorem dL_law_413 : decode cL_law 413 = .ok (.iadd, 1) := by decide +kernel
theorem dL_law_414 : decode cL_law 414 = .ok (.iaload, 1) := by decide +kernel
theorem dL_law_415 : decode cL_law 415 = .ok (.aload_n 0, 1) := by decide +kernel
theorem dL_law_416 : decode cL_law 416 = .ok (.iload_n 3, 1) := by decide +kernel
theorem dL_law_417 : decode cL_law 417 = .ok (.iconst 2, 1) := by decide +kernel
theorem dL_law_418 : decode cL_law 418 = .ok (.iadd, 1) := by decide +kernel
theorem dL_law_419 : decode cL_law 419 = .ok (.iaload, 1) := by decide +kernel
theorem dL_law_420 : decode cL_law 420 = .ok (.aload_n 0, 1) := by decide +kernel
theorem dL_law_421 : decode cL_law 421 = .ok (.iload_n 3, 1) := by decide +kernel
theorem dL_law_422 : decode cL_law 422 = .ok (.iconst 3, 1) := by decide +kernel
theorem dL_law_423 : decode cL_law 423 = .ok (.iadd, 1) := by decide +kernel
theorem dL_law_424 : decode cL_law 424 = .ok (.iaload, 1) := by decide +kernel
theorem dL_law_425 : decode cL_law 425 = .ok (.i2l, 1) := by decide +kernel
theorem dL_law_426 : decode cL_law 426 = .ok (.bipush 32, 2) := by decide +kernel
theorem dL_law_428 : decode cL_law 428 = .ok (.lshl, 1) := by decide +kernel
theorem dL_law_429 : decode cL_law 429 = .ok (.aload_n 0, 1) := by decide +kernel
theorem dL_law_430 : decode cL_law 430 = .ok (.iload_n 3, 1) := by decide +kernel
theorem dL_law_431 : decode cL_law 431 = .ok (.iconst 4, 1) := by decide +kernel
theorem dL_law_432 : decode cL_law 432 = .ok (.iadd, 1) := by decide +kernel
theorem dL_law_433 : decode cL_law 433 = .ok (.iaload, 1) := by decide +kernel
theorem dL_law_434 : decode cL_law 434 = .ok (.i2l, 1) := by decide +kernel
theorem dL_law_435 : decode cL_law 435 = .ok (.ldc2_w 13, 3) := by decide +kernel
theorem dL_law_438 : decode cL_law 438 = .ok (.land, 1) := by decide +kernel
theorem dL_law_439 : decode cL_law 439 = .ok (.lor, 1) := by decide +kernel
theorem dL_law_440 : decode cL_law 440 = .ok (.invokevirtual 52, 3) := by decide +kernel
theorem dL_law_443 : decode cL_law 443 = .ok (.aload_n 2, 1) := by decide +kernel
theorem dL_law_444 : decode cL_law 444 = .ok (.aload_n 0, 1) := by decide +kernel
theorem dL_law_445 : decode cL_law 445 = .ok (.iload_n 3, 1) := by decide +kernel
theorem dL_law_446 : decode cL_law 446 = .ok (.iconst 1, 1) := by decide +kernel
theorem dL_law_447 : decode cL_law 447 = .ok (.iadd, 1) := by decide +kernel
theorem dL_law_448 : decode cL_law 448 = .ok (.iaload, 1) := by decide +kernel
theorem dL_law_449 : decode cL_law 449 = .ok (.aload_n 0, 1) := by decide +kernel
theorem dL_law_450 : decode cL_law 450 = .ok (.iload_n 3, 1) := by decide +kernel
theorem dL_law_451 : decode cL_law 451 = .ok (.iconst 2, 1) := by decide +kernel
theorem dL_law_452 : decode cL_law 452 = .ok (.iadd, 1) := by decide +kernel
theorem dL_law_453 : decode cL_law 453 = .ok (.iaload, 1) := by decide +kernel
theorem dL_law_454 : decode cL_law 454 = .ok (.aload_n 0, 1) := by decide +kernel
theorem dL_law_455 : decode cL_law 455 = .ok (.iload_n 3, 1) := by decide +kernel
theorem dL_law_456 : decode cL_law 456 = .ok (.iconst 3, 1) := by decide +kernel
theorem dL_law_457 : decode cL_law 457 = .ok (.iadd, 1) := by decide +kernel
theorem dL_law_458 : decode cL_law 458 = .ok (.iaload, 1) := by decide +kernel
theorem dL_law_459 : decode cL_law 459 = .ok (.i2l, 1) := by decide +kernel
theorem dL_law_460 : decode cL_law 460 = .ok (.bipush 32, 2) := by decide +kernel
theorem dL_law_462 : decode cL_law 462 = .ok (.lshl, 1) := by decide +kernel
theorem dL_law_463 : decode cL_law 463 = .ok (.aload_n 0, 1) := by decide +kernel
theorem dL_law_464 : decode cL_law 464 = .ok (.iload_n 3, 1) := by decide +kernel
theorem dL_law_465 : decode cL_law 465 = .ok (.iconst 4, 1) := by decide +kernel
theorem dL_law_466 : decode cL_law 466 = .ok (.iadd, 1) := by decide +kernel
theorem dL_law_467 : decode cL_law 467 = .ok (.iaload, 1) := by decide +kernel
theorem dL_law_468 : decode cL_law 468 = .ok (.i2l, 1) := by decide +kernel
theorem dL_law_469 : decode cL_law 469 = .ok (.ldc2_w 13, 3) := by decide +kernel
theorem dL_law_472 : decode cL_law 472 = .ok (.land, 1) := by decide +kernel
theorem dL_law_473 : decode cL_law 473 = .ok (.lor, 1) := by decide +kernel
theorem dL_law_474 : decode cL_law 474 = .ok (.invokevirtual 55, 3) := by decide +kernel
theorem dL_law_477 : decode cL_law 477 = .ok (.lcmp, 1) := by decide +kernel
theorem dL_law_478 : decode cL_law 478 = .ok (.ifCond .eq 5, 3) := by decide +kernel
theorem dL_law_481 : decode cL_law 481 = .ok (.iconst 0, 1) := by decide +kernel
theorem dL_law_482 : decode cL_law 482 = .ok (.ireturn, 1) := by decide +kernel
theorem dL_law_483 : decode cL_law 483 = .ok (.iinc 3 5, 3) := by decide +kernel
theorem dL_law_486 : decode cL_law 486 = .ok (.goto (-468), 3) := by decide +kernel
theorem dL_law_489 : decode cL_law 489 = .ok (.iconst 1, 1) := by decide +kernel
theorem dL_law_490 : decode cL_law 490 = .ok (.ireturn, 1) := by decide +kernel

theorem q11 : (Jvm.Cond.initialized "MainframeDeskLaw") ∈ lw_all := lw_g (lw_at lw_m1 0 rfl) rfl
set_option maxRecDepth 100000
theorem q43 : (Jvm.Cond.classLink "MainframeDeskLaw" (7 : Nat) "MainframeDesk") ∈ lw_all := lw_g (lw_at lw_m1 32 rfl) rfl
theorem q45 : (Jvm.Cond.methodLink "MainframeDeskLaw" (9 : Nat) ({ cls := "MainframeDesk", name := "<init>", desc := "()V" } : Jvm.MethodName)) ∈ lw_all := lw_g (lw_at lw_m1 34 rfl) rfl
theorem q185 : (Jvm.Cond.methodLink "MainframeDeskLaw" (15 : Nat) ({ cls := "MainframeDesk", name := "collect", desc := "(IJ)I" } : Jvm.MethodName)) ∈ lw_all := lw_g (lw_at lw_m1 174 rfl) rfl
theorem q227 : (Jvm.Cond.methodLink "MainframeDeskLaw" (20 : Nat) ({ cls := "MainframeDesk", name := "answer", desc := "(IJ)I" } : Jvm.MethodName)) ∈ lw_all := lw_g (lw_at lw_m1 216 rfl) rfl
theorem q234 : (Jvm.Cond.methodLink "MainframeDeskLaw" (24 : Nat) ({ cls := "MainframeDesk", name := "fails", desc := "(II)I" } : Jvm.MethodName)) ∈ lw_all := lw_g (lw_at lw_m1 223 rfl) rfl
theorem q238 : (Jvm.Cond.methodLink "MainframeDeskLaw" (29 : Nat) ({ cls := "MainframeDesk", name := "make", desc := "(I)I" } : Jvm.MethodName)) ∈ lw_all := lw_g (lw_at lw_m1 227 rfl) rfl
theorem q264 : (Jvm.Cond.methodLink "MainframeDeskLaw" (43 : Nat) ({ cls := "MainframeDesk", name := "drop", desc := "(I)Z" } : Jvm.MethodName)) ∈ lw_all := lw_g (lw_at lw_m2 13 rfl) rfl
theorem q278 : (Jvm.Cond.methodLink "MainframeDeskLaw" (34 : Nat) ({ cls := "MainframeDesk", name := "call", desc := "(IIJ)J" } : Jvm.MethodName)) ∈ lw_all := lw_g (lw_at lw_m2 27 rfl) rfl
theorem q532 : (Jvm.Cond.methodLink "MainframeDeskLaw" (52 : Nat) ({ cls := "MainframeDesk", name := "again", desc := "(IIJ)J" } : Jvm.MethodName)) ∈ lw_all := lw_g (lw_at lw_m3 41 rfl) rfl
theorem q536 : (Jvm.Cond.methodLink "MainframeDeskLaw" (39 : Nat) ({ cls := "MainframeDesk", name := "told", desc := "(I)I" } : Jvm.MethodName)) ∈ lw_all := lw_g (lw_at lw_m3 45 rfl) rfl
theorem q540 : (Jvm.Cond.methodLink "MainframeDeskLaw" (48 : Nat) ({ cls := "MainframeDesk", name := "numbers", desc := "(I)I" } : Jvm.MethodName)) ∈ lw_all := lw_g (lw_at lw_m3 49 rfl) rfl
theorem q549 : (Jvm.Cond.classLink "MainframeDeskLaw" (10 : Nat) "MainframeDeskModel") ∈ lw_all := lw_g (lw_at lw_m3 58 rfl) rfl
theorem q551 : (Jvm.Cond.methodLink "MainframeDeskLaw" (12 : Nat) ({ cls := "MainframeDeskModel", name := "<init>", desc := "()V" } : Jvm.MethodName)) ∈ lw_all := lw_g (lw_at lw_m3 60 rfl) rfl
theorem q606 : (Jvm.Cond.methodLink "MainframeDeskLaw" (19 : Nat) ({ cls := "MainframeDeskModel", name := "collect", desc := "(IJ)I" } : Jvm.MethodName)) ∈ lw_all := lw_g (lw_at lw_m3 115 rfl) rfl
theorem q613 : (Jvm.Cond.methodLink "MainframeDeskLaw" (23 : Nat) ({ cls := "MainframeDeskModel", name := "answer", desc := "(IJ)I" } : Jvm.MethodName)) ∈ lw_all := lw_g (lw_at lw_m3 122 rfl) rfl
theorem q617 : (Jvm.Cond.methodLink "MainframeDeskLaw" (28 : Nat) ({ cls := "MainframeDeskModel", name := "fails", desc := "(II)I" } : Jvm.MethodName)) ∈ lw_all := lw_g (lw_at lw_m3 126 rfl) rfl
theorem q621 : (Jvm.Cond.methodLink "MainframeDeskLaw" (33 : Nat) ({ cls := "MainframeDeskModel", name := "make", desc := "(I)I" } : Jvm.MethodName)) ∈ lw_all := lw_g (lw_at lw_m3 130 rfl) rfl
theorem q625 : (Jvm.Cond.methodLink "MainframeDeskLaw" (55 : Nat) ({ cls := "MainframeDeskModel", name := "again", desc := "(IIJ)J" } : Jvm.MethodName)) ∈ lw_all := lw_g (lw_at lw_m3 134 rfl) rfl
theorem q641 : (Jvm.Cond.methodLink "MainframeDeskLaw" (38 : Nat) ({ cls := "MainframeDeskModel", name := "call", desc := "(IIJ)J" } : Jvm.MethodName)) ∈ lw_all := lw_g (lw_at lw_m3 150 rfl) rfl
theorem q645 : (Jvm.Cond.methodLink "MainframeDeskLaw" (42 : Nat) ({ cls := "MainframeDeskModel", name := "told", desc := "(I)I" } : Jvm.MethodName)) ∈ lw_all := lw_g (lw_at lw_m3 154 rfl) rfl
theorem q649 : (Jvm.Cond.methodLink "MainframeDeskLaw" (47 : Nat) ({ cls := "MainframeDeskModel", name := "drop", desc := "(I)Z" } : Jvm.MethodName)) ∈ lw_all := lw_g (lw_at lw_m3 158 rfl) rfl
theorem q653 : (Jvm.Cond.methodLink "MainframeDeskLaw" (51 : Nat) ({ cls := "MainframeDeskModel", name := "numbers", desc := "(I)I" } : Jvm.MethodName)) ∈ lw_all := lw_g (lw_at lw_m3 162 rfl) rfl
theorem q657 : (Jvm.Cond.constantLong "MainframeDeskLaw" (13 : Nat) (4294967295 : Int64)) ∈ lw_all := lw_g (lw_at lw_m3 166 rfl) rfl

theorem q29 : (Jvm.Cond.initialized "MainframeDesk$State") ∈ lw_all := lw_g (lw_at lw_m1 18 rfl) rfl
set_option maxRecDepth 100000
theorem q117 : (Jvm.Cond.selects "MainframeDesk$State" ({ cls := "java/lang/Object", name := "getClass", desc := "()Ljava/lang/Class;" } : Jvm.MethodName) ({ cls := "java/lang/Object", name := "getClass", desc := "()Ljava/lang/Class;" } : Jvm.MethodName)) ∈ lw_all := lw_g (lw_at lw_m1 106 rfl) rfl
theorem q249 : (Jvm.Cond.laysStatic "MainframeDesk$State" "THERE" "LMainframeDesk$State;") ∈ lw_tbl := lw_at lw_m1 238 rfl
theorem q277 : (Jvm.Cond.laysStatic "MainframeDesk$State" "DROPPED" "LMainframeDesk$State;") ∈ lw_tbl := lw_at lw_m2 26 rfl
theorem q531 : (Jvm.Cond.laysStatic "MainframeDesk$State" "ENDED" "LMainframeDesk$State;") ∈ lw_tbl := lw_at lw_m3 40 rfl
theorem q666 : (Jvm.Cond.castable "MainframeDesk$State" "java/lang/Object") ∈ lw_tbl := lw_at lw_m3 175 rfl

theorem q681 : (Jvm.Cond.castable "[B" "java/lang/Object") ∈ lw_tbl := lw_at lw_m3 190 rfl
set_option maxRecDepth 100000

theorem q682 : (Jvm.Cond.castable "[I" "java/lang/Object") ∈ lw_tbl := lw_at lw_m3 191 rfl
set_option maxRecDepth 100000

theorem q683 : (Jvm.Cond.castable "[J" "java/lang/Object") ∈ lw_tbl := lw_at lw_m3 192 rfl
set_option maxRecDepth 100000

theorem q679 : (Jvm.Cond.castable "[LMainframeDesk$Part;" "java/lang/Object") ∈ lw_tbl := lw_at lw_m3 188 rfl
set_option maxRecDepth 100000

theorem q676 : (Jvm.Cond.sameMethod "[Ljava/lang/Object;" "java/lang/Object" "getClass" "()Ljava/lang/Class;") ∈ lw_all := lw_g (lw_at lw_m3 185 rfl) rfl
set_option maxRecDepth 100000
theorem q677 : (Jvm.Cond.selects "[Ljava/lang/Object;" ({ cls := "java/lang/Object", name := "getClass", desc := "()Ljava/lang/Class;" } : Jvm.MethodName) ({ cls := "java/lang/Object", name := "getClass", desc := "()Ljava/lang/Class;" } : Jvm.MethodName)) ∈ lw_all := lw_g (lw_at lw_m3 186 rfl) rfl
theorem q680 : (Jvm.Cond.castable "[Ljava/lang/Object;" "java/lang/Object") ∈ lw_tbl := lw_at lw_m3 189 rfl

theorem q684 : (Jvm.Cond.castable "[Z" "java/lang/Object") ∈ lw_tbl := lw_at lw_m3 193 rfl
set_option maxRecDepth 100000

theorem q28 : (Jvm.Cond.initialized "java/lang/Enum") ∈ lw_all := lw_g (lw_at lw_m1 17 rfl) rfl
set_option maxRecDepth 100000

theorem q26 : (Jvm.Cond.initialized "java/lang/Long$LongCache") ∈ lw_all := lw_g (lw_at lw_m1 15 rfl) rfl
set_option maxRecDepth 100000
theorem q213 : (Jvm.Cond.laysStatic "java/lang/Long$LongCache" "cache" "[Ljava/lang/Long;") ∈ lw_tbl := lw_at lw_m1 202 rfl

theorem q19 : (Jvm.Cond.initialized "java/lang/System") ∈ lw_all := lw_g (lw_at lw_m1 8 rfl) rfl
set_option maxRecDepth 100000
theorem q139 : (Jvm.Cond.static ({ cls := "java/lang/System", name := "arraycopy", desc := "(Ljava/lang/Object;ILjava/lang/Object;II)V" } : Jvm.MethodName)) ∈ lw_all := lw_g (lw_at lw_m1 128 rfl) rfl
theorem q140 : (Jvm.Cond.native ({ cls := "java/lang/System", name := "arraycopy", desc := "(Ljava/lang/Object;ILjava/lang/Object;II)V" } : Jvm.MethodName)) ∈ lw_all := lw_g (lw_at lw_m1 129 rfl) rfl

theorem q499 : (Jvm.Cond.interfaceMethod "java/util/Iterator" "java/util/Iterator" "hasNext" "()Z") ∈ lw_tbl := lw_at lw_m3 8 rfl
set_option maxRecDepth 100000
theorem q500 : (Jvm.Cond.declares ({ cls := "java/util/Iterator", name := "hasNext", desc := "()Z" } : Jvm.MethodName)) ∈ lw_tbl := lw_at lw_m3 9 rfl
theorem q509 : (Jvm.Cond.interfaceMethod "java/util/Iterator" "java/util/Iterator" "next" "()Ljava/lang/Object;") ∈ lw_tbl := lw_at lw_m3 18 rfl
theorem q510 : (Jvm.Cond.declares ({ cls := "java/util/Iterator", name := "next", desc := "()Ljava/lang/Object;" } : Jvm.MethodName)) ∈ lw_tbl := lw_at lw_m3 19 rfl

theorem q81 : (Jvm.Cond.arrayOver (Jvm.ClassFile.FieldType.object "MainframeDesk$Part")) ∈ lw_tbl := lw_at lw_m1 70 rfl
set_option maxRecDepth 100000
theorem q133 : (Jvm.Cond.arrayOver (Jvm.ClassFile.FieldType.object "java/lang/Object")) ∈ lw_tbl := lw_at lw_m1 122 rfl
theorem q364 : (Jvm.Cond.arrayClass Jvm.ClassFile.FieldType.byte) ∈ lw_all := lw_g (lw_at lw_m2 113 rfl) rfl
theorem q443 : (Jvm.Cond.arrayClass Jvm.ClassFile.FieldType.int) ∈ lw_all := lw_g (lw_at lw_m2 192 rfl) rfl
theorem q604 : (Jvm.Cond.arrayClass Jvm.ClassFile.FieldType.long) ∈ lw_all := lw_g (lw_at lw_m3 113 rfl) rfl
theorem q605 : (Jvm.Cond.arrayClass Jvm.ClassFile.FieldType.boolean) ∈ lw_all := lw_g (lw_at lw_m3 114 rfl) rfl
end
section
/-! ===== own layer: memory maps with ghost tags; one base state ===== -/
abbrev vwCl : List vw_C := [(RX0, TX0, 9), (RX1, TX1, 2), (RX2, TX2, 16), (RX3, TX3, 3), (RJ2, TJ2, 3), (RJ9, TJ9, 1), (RJ21, TJ21, 4)]
/-- a memory map: at an address a ghost tag (its owner) and what stands there -/
abbrev mm : Type := Nat → Option (Nat × va_E)
def mset (w : mm) (a : Nat) (x : Nat × va_E) : mm := fun q => if q = a then some x else w q
theorem mset_self (w : mm) (a : Nat) (x : Nat × va_E) : mset w a x a = some x := if_pos rfl
theorem mset_ne (w : mm) {a q : Nat} (x : Nat × va_E) (h : q ≠ a) : mset w a x q = w q := if_neg h
/-- entries whose tag is in S are kept -/
def Kp (S : Nat → Prop) (w w' : mm) : Prop := ∀ (x t : Nat) (e : va_E), w x = some (t, e) → S t → w' x = some (t, e)
theorem Kp.rf {S : Nat → Prop} {w : mm} : Kp S w w := fun _ _ _ h _ => h
theorem Kp.tr {S : Nat → Prop} {w1 w2 w3 : mm} (h1 : Kp S w1 w2) (h2 : Kp S w2 w3) : Kp S w1 w3 := fun x t e h hs => h2 x t e (h1 x t e h hs) hs
theorem Kp.mono {S S' : Nat → Prop} {w w' : mm} (h : Kp S w w') (hs : ∀ t, S' t → S t) : Kp S' w w' := fun x t e hx ht => h x t e hx (hs t ht)
/-- an entry is overwritten under its tag -/
theorem Kp.put {S : Nat → Prop} {w : mm} {a t : Nat} {e e' : va_E} (ha : w a = some (t, e)) (hS : ¬ S t) : Kp S w (mset w a (t, e')) := by
  intro x u f hx hu
  by_cases h : x = a
  · subst h
    rw [ha] at hx
    cases hx
    exact absurd hu hS
  · rw [mset_ne _ _ h]; exact hx
/-- a new entry -/
theorem Kp.new {S : Nat → Prop} {w : mm} {a : Nat} {y : Nat × va_E} (ha : w a = none) : Kp S w (mset w a y) := by
  intro x u f hx _
  by_cases h : x = a
  · subst h
    rw [ha] at hx
    cases hx
  · rw [mset_ne _ _ h]; exact hx
theorem mm_ne {w : mm} {a b t u : Nat} {e f : va_E} (ha : w a = some (t, e)) (hb : w b = some (u, f)) (h : t ≠ u) : a ≠ b := fun q => by
  subst q
  rw [ha] at hb
  cases hb
  exact h rfl
theorem mm_nn {w : mm} {a b t : Nat} {e : va_E} (ha : w a = some (t, e)) (hb : w b = none) : a ≠ b := fun q => by
  subst q
  rw [ha] at hb
  cases hb
/-- what may be written: nothing that was there at the law's start -/
def Fr (s0 : State) : Nat → Prop := fun q => s0.heap.size ≤ q
def Px (s0 : State) (D : va_G) (w : mm) (H : Heap) (locs : List Loc) : Prop :=
  s0.heap.size ≤ H.size ∧ (∀ q : Nat, q < s0.heap.size → H[q]? = s0.heap[q]?) ∧ (∀ (a t : Nat) (e : va_E), w a = some (t, e) → s0.heap.size ≤ a ∧ va_at D vwCl (a, e) H) ∧ ∀ q ∈ locs, s0.heap.size ≤ q.base
def Cx (s0 : State) (D : va_G) (w : mm) (U : State) : Prop := s0.WarmedH U.vm ∧ Px s0 D w U.heap []
theorem Px.at {s0 : State} {D : va_G} {w : mm} {H : Heap} {locs : List Loc} (h : Px s0 D w H locs) {a t : Nat} {e : va_E} (ha : w a = some (t, e)) : va_at D vwCl (a, e) H := (h.2.2.1 a t e ha).2
theorem Px.one {s0 : State} {D : va_G} {w : mm} {H : Heap} {locs : List Loc} (h : Px s0 D w H locs) {a t : Nat} {e : va_E} (ha : w a = some (t, e)) : va_P D vwCl [(a, e)] H := by
  intro k q hk
  have hz : k < 1 := (List.getElem?_eq_some_iff.mp hk).1
  rw [show k = 0 by omega] at hk
  cases hk
  exact h.at ha
theorem Px.lt {s0 : State} {D : va_G} {w : mm} {H : Heap} {locs : List Loc} (h : Px s0 D w H locs) {a t : Nat} {e : va_E} (ha : w a = some (t, e)) : a < H.size := (h.at ha).lt
theorem Px.fresh {s0 : State} {D : va_G} {w : mm} {H : Heap} {locs : List Loc} (h : Px s0 D w H locs) {a : Nat} (ha : H.size ≤ a) : w a = none := by
  cases hw : w a with
  | none => rfl
  | some x =>
    obtain ⟨t, e⟩ := x
    have := h.lt hw
    omega
theorem Px.put {s0 : State} {D : va_G} {w : mm} {H H1 : Heap} {locs : List Loc} (h : Px s0 D w H locs) {a t k : Nat} {e e' : va_E} (ha : w a = some (t, e)) (u : Nat) (he : va_at D vwCl (a, e') H1) (hz : H1.size = H.size) (ho : ∀ q : Nat, q ≠ a → H1[q]? = H[q]?) : Px s0 D (mset w a (u, e')) H1 (locs ++ [⟨a, k⟩]) := by
  have h0 := (h.2.2.1 a t e ha).1
  refine ⟨by rw [hz]; exact h.1, fun q hq => ?_, fun x v f hx => ?_, fun q hq => ?_⟩
  · rw [ho q (by omega)]; exact h.2.1 q hq
  · by_cases hxa : x = a
    · subst hxa
      rw [mset_self] at hx
      cases hx
      exact ⟨h0, he⟩
    · rw [mset_ne _ _ hxa] at hx
      obtain ⟨g1, g2⟩ := h.2.2.1 x v f hx
      exact ⟨g1, g2.kept (ho x hxa)⟩
  · rcases List.mem_append.mp hq with h1 | h1
    · exact h.2.2.2 q h1
    · rw [List.mem_singleton.mp h1]; exact h0
theorem Px.new {s0 : State} {D : va_G} {w : mm} {H H1 : Heap} {locs : List Loc} (h : Px s0 D w H locs) {u : Nat} {e' : va_E} (he : va_at D vwCl (H.size, e') H1) (hz : H1.size = H.size + 1) (ho : ∀ q : Nat, q < H.size → H1[q]? = H[q]?) : Px s0 D (mset w H.size (u, e')) H1 locs := by
  refine ⟨by have := h.1; omega, fun q hq => ?_, fun x v f hx => ?_, h.2.2.2⟩
  · rw [ho q (Nat.lt_of_lt_of_le hq h.1)]; exact h.2.1 q hq
  · by_cases hxa : x = H.size
    · subst hxa
      rw [mset_self] at hx
      cases hx
      exact ⟨h.1, he⟩
    · rw [mset_ne _ _ hxa] at hx
      obtain ⟨g1, g2⟩ := h.2.2.1 x v f hx
      exact ⟨g1, g2.kept (ho x g2.lt)⟩
/-- cells are made that the map doesn't tell of -/
theorem Px.grow {s0 : State} {D : va_G} {w : mm} {H H1 : Heap} {locs : List Loc} (h : Px s0 D w H locs) (hz : H.size ≤ H1.size) (ho : ∀ q : Nat, q < H.size → H1[q]? = H[q]?) : Px s0 D w H1 locs := by
  refine ⟨Nat.le_trans h.1 hz, fun q hq => ?_, fun x v f hx => ?_, h.2.2.2⟩
  · rw [ho q (Nat.lt_of_lt_of_le hq h.1)]; exact h.2.1 q hq
  · obtain ⟨g1, g2⟩ := h.2.2.1 x v f hx
    exact ⟨g1, g2.kept (ho x g2.lt)⟩
theorem Px.less {s0 : State} {D : va_G} {w w' : mm} {H : Heap} {locs : List Loc} (h : Px s0 D w H locs) (hw : ∀ a x, w' a = some x → w a = some x) : Px s0 D w' H locs := ⟨h.1, h.2.1, fun a t e ha => h.2.2.1 a t e (hw _ _ ha), h.2.2.2⟩
theorem Px.nil {s0 : State} {D : va_G} {w : mm} {H : Heap} {locs : List Loc} (h : Px s0 D w H locs) : Px s0 D w H [] := ⟨h.1, h.2.1, h.2.2.1, fun _ h => by cases h⟩
theorem Px.locs {s0 : State} {D : va_G} {w : mm} {H : Heap} {locs L : List Loc} (h : Px s0 D w H []) (hl : ∀ q ∈ locs, s0.heap.size ≤ q.base) (hL : ∀ q ∈ L, Fr s0 q.base) : Px s0 D w H (locs ++ L) := ⟨h.1, h.2.1, h.2.2.1, fun q hq => by
  rcases List.mem_append.mp hq with h1 | h1
  · exact hl q h1
  · exact hL q h1⟩
theorem Cx.blind {s0 : State} {D : va_G} {w : mm} {av : List Value} : FrameBlind (va_Pc av (Cx s0 D w)) := fun _ _ _ _ q => q
/-! how a contract ends -/
def Qi (s0 : State) (D : va_G) (post : Int32 → mm → Prop) : Array Value → State → Outcome → State → Prop := fun _ _ oc t => ∃ (r : Int32) (w : mm), oc = .returned (some (.int r)) ∧ post r w ∧ Cx s0 D w t
def Ql (s0 : State) (D : va_G) (post : Int64 → mm → Prop) : Array Value → State → Outcome → State → Prop := fun _ _ oc t => ∃ (r : Int64) (w : mm), oc = .returned (some (.long r)) ∧ post r w ∧ Cx s0 D w t
def Qv (s0 : State) (D : va_G) (post : mm → Prop) : Array Value → State → Outcome → State → Prop := fun _ _ oc t => ∃ w : mm, oc = .returned none ∧ post w ∧ Cx s0 D w t
def Qr (s0 : State) (D : va_G) (post : Nat → mm → Prop) : Array Value → State → Outcome → State → Prop := fun _ _ oc t => ∃ (r : Nat) (w : mm), oc = .returned (some (.ref r)) ∧ post r w ∧ Cx s0 D w t
def Qq (s0 : State) (D : va_G) (post : Option Nat → mm → Prop) : Array Value → State → Outcome → State → Prop := fun _ _ oc t => ∃ (r : Option Nat) (w : mm), oc = .returned (some (va_rf r)) ∧ post r w ∧ Cx s0 D w t
/-- the array classes that are known -/
abbrev tysG (G : Nat → Nat) : List (ClassId × FieldType) := [(G 0, .int), (G 1, .long), (G 2, .boolean), (G 3, .object "java/lang/Object"), (G 4, .object "MainframeDesk$Part")]
/-- what holds all through a method's body -/
def Mx (p : Program) (m : MethodId) (c : Code) (cc : ByteArray) (nL : Nat) (s : State) (args : Array Value) (own : String) (s0 : State) (D : va_G) (G : Nat → Nat) : Prop := CallFix p m c cc nL s args lw_all own ∧ s0.WarmedH s.vm ∧ va_K D vwCl (tysG G) s
/-- a class of the list, with its tables -/
def Cd (ci : Nat) (C : String) (T : u_T) (N : Nat) (ty : Nat → FieldType) : Prop := vwCl[ci]? = some (C, T, N) ∧ (∀ w ∈ u_ws C T N, w ∈ lw_all) ∧ (∀ k, k < N → parseFieldDescriptor (T k).2.2.1 = some (ty k)) ∧ (∀ a, a < N → ∀ b, b < N → a ≠ b → (T a).2.1 ≠ (T b).2.1)
theorem cdX0 : Cd 0 RX0 TX0 9 tyX0 := ⟨rfl, in_X0, tyX0_ok, nmX0⟩
theorem cdX1 : Cd 1 RX1 TX1 2 tyX1 := ⟨rfl, in_X1, tyX1_ok, nmX1⟩
theorem cdX2 : Cd 2 RX2 TX2 16 tyX2 := ⟨rfl, in_X2, tyX2_ok, nmX2⟩
theorem cdX3 : Cd 3 RX3 TX3 3 tyX3 := ⟨rfl, in_X3, tyX3_ok, nmX3⟩
theorem cdJ2 : Cd 4 RJ2 TJ2 3 tyJ2 := ⟨rfl, in_J2, tyJ2_ok, nmJ2⟩
theorem cdJ9 : Cd 5 RJ9 TJ9 1 tyJ9 := ⟨rfl, in_J9, tyJ9_ok, nmJ9⟩
theorem cdJ21 : Cd 6 RJ21 TJ21 4 tyJ21 := ⟨rfl, in_J21, tyJ21_ok, nmJ21⟩
section RX
variable {p : Program} {l : Launch} {e : Env} {R : Room} {s : State} {m : MethodId} {args : Array Value} {below : List Frame} {meth : Method} {c : Code} {H : Heap} {locs : List Loc} {cells slots : Nat} {Q : State → Prop}
variable {cc : ByteArray} {nL : Nat} {own : String} {s0 : State} {D : va_G} {G : Nat → Nat} {w : mm} {pc : Nat} {ls : Array Slot} {rest st0 : List Value}
/-! fields -/
theorem r_get (M : Mx p m c cc nL s args own s0 D G) {ci N t index a : Nat} {C ref : String} {T : u_T} {ty : Nat → FieldType} {fs : List Value} (cd : Cd ci C T N ty) (hP : Px s0 D w H locs) (hw : w a = some (t, .inr (ci, fs))) (k : Nat) (hk : k < N) (hlink : Cond.fieldLink own index ref (T k).2.1 (T k).2.2.1 ∈ lw_all) (hsame : ∀ x, s.fieldFound? (T k).1 (T k).2.1 (T k).2.2.1 = some x → s.fieldFound? ref (T k).2.1 (T k).2.2.1 = some x) {v : Value} (hv : fs[k]? = some v) (hdg : decode cc pc = .ok (.getfield index, 3))
    (kk : W p l e R s m args below meth c H locs cells slots Q (F0 m (pc + 3) ls (v :: rest))) : W p l e R s m args below meth c H locs cells slots Q (F0 m pc ls (.ref a :: rest)) := by
  obtain ⟨⟨hx, hb, -, hown, hts⟩, -, hK⟩ := M
  exact va_get (C := C) (T := T) (N := N) hx hb hts cd.2.1 hown hK (hP.one hw) 0 rfl cd.1 k hk (hts _ hlink) hsame hv hdg kk
theorem r_getN (M : Mx p m c cc nL s args own s0 D G) {ci N t index a : Nat} {C ref host : String} {T : u_T} {ty : Nat → FieldType} {fs : List Value} (cd : Cd ci C T N ty) (hP : Px s0 D w H locs) (hw : w a = some (t, .inr (ci, fs))) (k : Nat) (hk : k < N) (hlink : (Cond.fieldLinkNest own index ref (T k).2.1 (T k).2.2.1 host).before args s = true) (hsame : ∀ x, s.fieldFound? (T k).1 (T k).2.1 (T k).2.2.1 = some x → s.fieldFound? ref (T k).2.1 (T k).2.2.1 = some x) {v : Value} (hv : fs[k]? = some v) (hdg : decode cc pc = .ok (.getfield index, 3))
    (kk : W p l e R s m args below meth c H locs cells slots Q (F0 m (pc + 3) ls (v :: rest))) : W p l e R s m args below meth c H locs cells slots Q (F0 m pc ls (.ref a :: rest)) := by
  obtain ⟨⟨hx, hb, -, hown, hts⟩, -, hK⟩ := M
  exact va_getN (C := C) (T := T) (N := N) hx hb hts cd.2.1 hown hK (hP.one hw) 0 rfl cd.1 k hk hlink hsame hv hdg kk
theorem r_put (M : Mx p m c cc nL s args own s0 D G) {ci N t index a : Nat} {C ref : String} {T : u_T} {ty : Nat → FieldType} {fs : List Value} (cd : Cd ci C T N ty) (hP : Px s0 D w H locs) (hw : w a = some (t, .inr (ci, fs))) (k : Nat) (hk : k < N) (hlink : Cond.fieldLink own index ref (T k).2.1 (T k).2.2.1 ∈ lw_all) (hsame : ∀ x, s.fieldFound? (T k).1 (T k).2.1 (T k).2.2.1 = some x → s.fieldFound? ref (T k).2.1 (T k).2.2.1 = some x) (hfin : (T k).2.2.2 = false) {v : Value} (hn : narrow (ty k) v = v) (hfit : fits (ty k) v = true) (hl : k < fs.length) (hdg : decode cc pc = .ok (.putfield index, 3))
    (kk : ∀ (H1 : Heap) (locs1 : List Loc), Px s0 D (mset w a (t, .inr (ci, fs.set k v))) H1 locs1 → W p l e R s m args below meth c H1 locs1 cells slots Q (F0 m (pc + 3) ls rest)) : W p l e R s m args below meth c H locs cells slots Q (F0 m pc ls (v :: .ref a :: rest)) := by
  obtain ⟨⟨hx, hb, -, hown, hts⟩, -, hK⟩ := M
  obtain ⟨hc, hin, hty, hnm⟩ := cd
  have hap := va_apart (own := own) hts hin ty hty hnm hK hc
  obtain ⟨r, h1, cell, q1, q2, q3, q4⟩ := hP.at hw
  have hr : r = (C, T, N) := Option.some.inj (h1.symm.trans hc)
  subst hr
  obtain ⟨hS, hfc, kC, hkC, hkind⟩ := hK.1 ci _ hc
  obtain ⟨cf, kf, fi, f, hi, hsl⟩ := hS k hk
  have hlay := hts _ (hin _ (u_in_lay hk))
  unfold u_lay at hlay
  rw [if_neg (by rw [hfin]; decide)] at hlay
  have hst := (u_facts hfc hkC (u_lays hts hin hk) hi).1
  have h6 := u_store hfc hkC hkind hlay hi (hty k hk) hn hfit
  refine W.putK hx hb (f := f) ⟨hown, hts _ hlink, ⟨_, _, _, hsame _ hi⟩, hst⟩ (by rw [q2]; exact h6) q1 q3 (by rw [hsl]; exact k2_hasslot (q4 k hk)) rfl rfl hdg fun H' e1 e2 e3 => ?_
  rw [hsl] at e1 ⊢
  exact kk H' _ (hP.put hw t ⟨_, hc, t_OB.to (V := updV (vp_V fs) k v) ⟨_, e1, q2, q3, t_set q4 hap hk v⟩ (fun j _ => vp_updV_set hl v j)⟩ e2 e3)
theorem r_putN (M : Mx p m c cc nL s args own s0 D G) {ci N t index a : Nat} {C ref host : String} {T : u_T} {ty : Nat → FieldType} {fs : List Value} (cd : Cd ci C T N ty) (hP : Px s0 D w H locs) (hw : w a = some (t, .inr (ci, fs))) (k : Nat) (hk : k < N) (hlink : (Cond.fieldLinkNest own index ref (T k).2.1 (T k).2.2.1 host).before args s = true) (hsame : ∀ x, s.fieldFound? (T k).1 (T k).2.1 (T k).2.2.1 = some x → s.fieldFound? ref (T k).2.1 (T k).2.2.1 = some x) (hfin : (T k).2.2.2 = false) {v : Value} (hn : narrow (ty k) v = v) (hfit : fits (ty k) v = true) (hl : k < fs.length) (hdg : decode cc pc = .ok (.putfield index, 3))
    (kk : ∀ (H1 : Heap) (locs1 : List Loc), Px s0 D (mset w a (t, .inr (ci, fs.set k v))) H1 locs1 → W p l e R s m args below meth c H1 locs1 cells slots Q (F0 m (pc + 3) ls rest)) : W p l e R s m args below meth c H locs cells slots Q (F0 m pc ls (v :: .ref a :: rest)) := by
  obtain ⟨⟨hx, hb, -, hown, hts⟩, -, hK⟩ := M
  obtain ⟨hc, hin, hty, hnm⟩ := cd
  have hap := va_apart (own := own) hts hin ty hty hnm hK hc
  obtain ⟨r, h1, cell, q1, q2, q3, q4⟩ := hP.at hw
  have hr : r = (C, T, N) := Option.some.inj (h1.symm.trans hc)
  subst hr
  obtain ⟨hS, hfc, kC, hkC, hkind⟩ := hK.1 ci _ hc
  obtain ⟨cf, kf, fi, f, hi, hsl⟩ := hS k hk
  have hlay := hts _ (hin _ (u_in_lay hk))
  unfold u_lay at hlay
  rw [if_neg (by rw [hfin]; decide)] at hlay
  have hst := (u_facts hfc hkC (u_lays hts hin hk) hi).1
  have h6 := u_store hfc hkC hkind hlay hi (hty k hk) hn hfit
  refine va_WputK hx hb (f := f) hown hlink (hsame _ hi) hst (by rw [q2]; exact h6) q1 q3 (by rw [hsl]; exact k2_hasslot (q4 k hk)) rfl rfl hdg fun H' e1 e2 e3 => ?_
  rw [hsl] at e1 ⊢
  exact kk H' _ (hP.put hw t ⟨_, hc, t_OB.to (V := updV (vp_V fs) k v) ⟨_, e1, q2, q3, t_set q4 hap hk v⟩ (fun j _ => vp_updV_set hl v j)⟩ e2 e3)
theorem r_putF (M : Mx p m c cc nL s args own s0 D G) {ci N t index a : Nat} {C ref : String} {T : u_T} {ty : Nat → FieldType} {fs : List Value} (cd : Cd ci C T N ty) (hP : Px s0 D w H locs) (hw : w a = some (t, .inr (ci, fs))) (k : Nat) (hk : k < N) (hlink : Cond.fieldLink own index ref (T k).2.1 (T k).2.2.1 ∈ lw_all) (hsame : ∀ x, s.fieldFound? (T k).1 (T k).2.1 (T k).2.2.1 = some x → s.fieldFound? ref (T k).2.1 (T k).2.2.1 = some x) (hfin : (T k).2.2.2 = true) (hin2 : meth.name = "<init>") (hdecl : (T k).1 = own) {v : Value} (hn : narrow (ty k) v = v) (hfit : fits (ty k) v = true) (hl : k < fs.length) (hdg : decode cc pc = .ok (.putfield index, 3))
    (kk : ∀ (H1 : Heap) (locs1 : List Loc), Px s0 D (mset w a (t, .inr (ci, fs.set k v))) H1 locs1 → W p l e R s m args below meth c H1 locs1 cells slots Q (F0 m (pc + 3) ls rest)) : W p l e R s m args below meth c H locs cells slots Q (F0 m pc ls (v :: .ref a :: rest)) := by
  obtain ⟨⟨hx, hb, -, hown, hts⟩, -, hK⟩ := M
  obtain ⟨hc, hin, hty, hnm⟩ := cd
  have hap := va_apart (own := own) hts hin ty hty hnm hK hc
  obtain ⟨r, h1, cell, q1, q2, q3, q4⟩ := hP.at hw
  have hr : r = (C, T, N) := Option.some.inj (h1.symm.trans hc)
  subst hr
  obtain ⟨hS, hfc, kC, hkC, hkind⟩ := hK.1 ci _ hc
  obtain ⟨cf, kf, fi, f, hi, hsl⟩ := hS k hk
  have hlay := hts _ (hin _ (u_in_lay hk))
  unfold u_lay at hlay
  rw [if_pos hfin] at hlay
  have hst := (u_facts hfc hkC (u_lays hts hin hk) hi).1
  have hcf : m.cls = cf := by
    obtain ⟨_, _, c', _, _, _, -, -, hf', -, -, -, hown2, -⟩ := Cond.laysFinal_spec hlay
    have e1 : c' = cf := by have := hi.symm.trans hf'; simp at this; exact this.1.symm
    rw [hdecl] at hown2
    rw [← e1]; exact Option.some.inj (hown.symm.trans hown2)
  have h6 := u_fits hfc hkC hkind (Or.inr hlay) hi (hty k hk) hn hfit
  refine W.putFinK hx hb hown (hts _ hlink) (hsame _ hi) hst hcf hin2 (by rw [q2]; exact h6) q1 q3 (by rw [hsl]; exact k2_hasslot (q4 k hk)) rfl rfl hdg fun H' e1 e2 e3 => ?_
  rw [hsl] at e1 ⊢
  exact kk H' _ (hP.put hw t ⟨_, hc, t_OB.to (V := updV (vp_V fs) k v) ⟨_, e1, q2, q3, t_set q4 hap hk v⟩ (fun j _ => vp_updV_set hl v j)⟩ e2 e3)
/-! new objects -/
theorem r_new (M : Mx p m c cc nL s args own s0 D G) {ci N index : Nat} {C : String} {T : u_T} {ty : Nat → FieldType} {fs : List Value} (u : Nat) (cd : Cd ci C T N ty) (hP : Px s0 D w H locs) (hcl : Cond.classLink own index C ∈ lw_all) (hinst : Cond.instantiable C N ∈ lw_all) (hini : Cond.initialized C ∈ lw_all) (hfs : ∀ j, j < N → defaultValue (ty j) = vp_V fs j) (hcells : cells + 1 ≤ R.cells) (hslots : slots + N ≤ R.slots) (hdg : decode cc pc = .ok (.new index, 3))
    (kk : ∀ (q : Nat) (H1 : Heap), w q = none → Px s0 D (mset w q (u, .inr (ci, fs))) H1 locs → W p l e R s m args below meth c H1 locs (cells + 1) (slots + N) Q (F0 m (pc + 3) ls (.ref q :: rest))) : W p l e R s m args below meth c H locs cells slots Q (F0 m pc ls rest) := by
  obtain ⟨⟨hx, hb, -, hown, hts⟩, -, hK⟩ := M
  obtain ⟨hc, hin, hty, hnm⟩ := cd
  have hKn := hK.1 ci _ hc
  refine W.newcK hx hb hown (hts _ hcl) (hts _ hinst) (hts _ hini) rfl hdg hcells hslots hKn.2.1 rfl fun H1 kC hkC e1 z1 o1 => ?_
  exact kk H.size H1 (hP.fresh (Nat.le_refl _)) (hP.new ⟨_, hc, (u_born ty hts hin hKn hkC e1 hty).to hfs⟩ z1 o1)
end RX
end
section
/-! ===== own layer: the base state's facts; arrays, statics, calls, ends ===== -/
/-- the long of the cache's k-th box -/
def lcv (k : Nat) : Int64 := (Int32.ofNat k - 128).toInt64
def Bs (l : Launch) (s0 : State) (D : va_G) (G ad : Nat → Nat) : Prop :=
  l.flags = flags0 ∧
  (∃ b : Nat, (∀ w ∈ lw_tbl, w.before #[Value.ref b] s0 = true) ∧ (Jvm.Cond.and given_1 narrow_1).before #[Value.ref b] s0 = true) ∧
  va_K D vwCl (tysG G) s0 ∧
  (va_Z RJ2 "DEFAULTCAPACITY_EMPTY_ELEMENTDATA" "[Ljava/lang/Object;" (.ref (G 5)) (Fr s0) s0 s0.heap ∧ va_T (.object "java/lang/Object") (G 5) 0 (fun _ => .null) (Fr s0) s0 s0.heap) ∧
  (va_Z "MainframeDesk$State" "THERE" "LMainframeDesk$State;" (.ref (G 6)) (Fr s0) s0 s0.heap ∧ va_Z "MainframeDesk$State" "DROPPED" "LMainframeDesk$State;" (.ref (G 7)) (Fr s0) s0 s0.heap ∧ va_Z "MainframeDesk$State" "ENDED" "LMainframeDesk$State;" (.ref (G 8)) (Fr s0) s0 s0.heap ∧ G 6 ≠ G 7 ∧ G 6 ≠ G 8) ∧
  (va_Z "java/lang/Long$LongCache" "cache" "[Ljava/lang/Long;" (.ref (G 9)) (Fr s0) s0 s0.heap ∧ va_T (.object "java/lang/Long") (G 9) 256 (fun k => .ref (ad k)) (Fr s0) s0 s0.heap ∧ ∀ k, k < 256 → va_O "java/lang/Long" (ad k) (Fr s0) s0 s0.heap ∧ va_OF "java/lang/Long" "value" "J" (.long (lcv k)) (ad k) (Fr s0) s0 s0.heap) ∧
  va_Mi "[Ljava/lang/Object;" (G 10) s0
section BsX
variable {l : Launch} {s0 : State} {D : va_G} {G ad : Nat → Nat}
theorem Bs.K (E : Bs l s0 D G ad) : va_K D vwCl (tysG G) s0 := E.2.2.1
theorem Bs.emZ (E : Bs l s0 D G ad) : va_Z RJ2 "DEFAULTCAPACITY_EMPTY_ELEMENTDATA" "[Ljava/lang/Object;" (.ref (G 5)) (Fr s0) s0 s0.heap := E.2.2.2.1.1
theorem Bs.emT (E : Bs l s0 D G ad) : va_T (.object "java/lang/Object") (G 5) 0 (fun _ => .null) (Fr s0) s0 s0.heap := E.2.2.2.1.2
theorem Bs.there (E : Bs l s0 D G ad) : va_Z "MainframeDesk$State" "THERE" "LMainframeDesk$State;" (.ref (G 6)) (Fr s0) s0 s0.heap := E.2.2.2.2.1.1
theorem Bs.dropped (E : Bs l s0 D G ad) : va_Z "MainframeDesk$State" "DROPPED" "LMainframeDesk$State;" (.ref (G 7)) (Fr s0) s0 s0.heap := E.2.2.2.2.1.2.1
theorem Bs.ended (E : Bs l s0 D G ad) : va_Z "MainframeDesk$State" "ENDED" "LMainframeDesk$State;" (.ref (G 8)) (Fr s0) s0 s0.heap := E.2.2.2.2.1.2.2.1
theorem Bs.ne7 (E : Bs l s0 D G ad) : G 6 ≠ G 7 := E.2.2.2.2.1.2.2.2.1
theorem Bs.ne8 (E : Bs l s0 D G ad) : G 6 ≠ G 8 := E.2.2.2.2.1.2.2.2.2
theorem Bs.lcZ (E : Bs l s0 D G ad) : va_Z "java/lang/Long$LongCache" "cache" "[Ljava/lang/Long;" (.ref (G 9)) (Fr s0) s0 s0.heap := E.2.2.2.2.2.1.1
theorem Bs.lcT (E : Bs l s0 D G ad) : va_T (.object "java/lang/Long") (G 9) 256 (fun k => .ref (ad k)) (Fr s0) s0 s0.heap := E.2.2.2.2.2.1.2.1
theorem Bs.lcO (E : Bs l s0 D G ad) {k : Nat} (h : k < 256) : va_O "java/lang/Long" (ad k) (Fr s0) s0 s0.heap := (E.2.2.2.2.2.1.2.2 k h).1
theorem Bs.lcF (E : Bs l s0 D G ad) {k : Nat} (h : k < 256) : va_OF "java/lang/Long" "value" "J" (.long (lcv k)) (ad k) (Fr s0) s0 s0.heap := (E.2.2.2.2.2.1.2.2 k h).2
theorem Bs.mir (E : Bs l s0 D G ad) : va_Mi "[Ljava/lang/Object;" (G 10) s0 := E.2.2.2.2.2.2
theorem Bs.nw (E : Bs l s0 D G ad) {w : Cond} (h : w ∈ lw_tbl) (ho : w.onTables = true) : va_Nw w s0 := by
  obtain ⟨b, hb, -⟩ := E.2.1
  exact va_Nw.of ho (hb w h)
theorem Bs.cast (E : Bs l s0 D G ad) {s : State} (hW : s0.WarmedH s.vm) {C T : String} (h : Cond.castable C T ∈ lw_tbl) : va_Nw (.castable C T) s := va_Nw.warmC hW (E.nw h rfl)
theorem Bs.fnest (E : Bs l s0 D G ad) {s : State} (hW : s0.WarmedH s.vm) {a : String} {i : Nat} {b n d h : String} (hw : Cond.fieldLinkNest a i b n d h ∈ lw_tbl) {args : Array Value} : (Cond.fieldLinkNest a i b n d h).before args s = true := va_Nw.use rfl (va_Nw.warmF hW (E.nw hw rfl))
theorem Bs.mnest (E : Bs l s0 D G ad) {s : State} (hW : s0.WarmedH s.vm) {a : String} {i : Nat} {x : MethodName} {h : String} (hw : Cond.methodLinkNest a i x h ∈ lw_tbl) : va_Nw (.methodLinkNest a i x h) s := va_Nw.warmM hW (E.nw hw rfl)
theorem Bs.over (E : Bs l s0 D G ad) {s : State} (hW : s0.WarmedH s.vm) {C : String} (hw : Cond.arrayOver (.object C) ∈ lw_tbl) : va_AO C s := by
  obtain ⟨b, hb, -⟩ := E.2.1
  exact va_AO.moved hW.alike (va_AO.of (hb _ hw))
theorem Bs.face (E : Bs l s0 D G ad) {s : State} (hW : s0.WarmedH s.vm) {C : String} {x y : MethodName} (hx : x.cls ≠ "java/lang/invoke/MethodHandle" ∧ x.cls ≠ "java/lang/invoke/VarHandle") (h1 : Cond.declares x ∈ lw_tbl) (h2 : Cond.interfaceMethod x.cls x.cls x.name x.desc ∈ lw_tbl) (h3 : Cond.publicMethod y ∈ lw_tbl) (h4 : Cond.unhidden C x.name x.desc ∈ lw_tbl) (h5 : Cond.castable C x.cls ∈ lw_tbl) : va_Fw C x y s := by
  obtain ⟨b, hb, -⟩ := E.2.1
  exact va_Fw.moved hx hW.alike (va_Fw.of (hb _ h1) (hb _ h2) (hb _ h3) (hb _ h4) (hb _ h5))
end BsX
/-! what stands in arrays -/
abbrev eI (G : Nat → Nat) (n : Nat) (f : Nat → Int32) : va_E := .inl (G 0, n, .inl f)
abbrev eJ (G : Nat → Nat) (n : Nat) (f : Nat → Int64) : va_E := .inl (G 1, n, .inr (.inl f))
abbrev eZ (G : Nat → Nat) (n : Nat) (f : Nat → Int32) : va_E := .inl (G 2, n, .inl f)
abbrev eO (G : Nat → Nat) (n : Nat) (f : Nat → Option Nat) : va_E := .inl (G 3, n, .inr (.inr (.inr (.inr f))))
abbrev eP (G : Nat → Nat) (n : Nat) (f : Nat → Option Nat) : va_E := .inl (G 4, n, .inr (.inr (.inr (.inr f))))
/-- y is an object of class C -/
def Rc (s0 : State) (w : mm) (y : Nat) (C : String) : Prop := (∃ (t ci : Nat) (fs : List Value) (T : u_T) (N : Nat), w y = some (t, .inr (ci, fs)) ∧ vwCl[ci]? = some (C, T, N)) ∨ ∃ cell : Cell, s0.heap[y]? = some cell ∧ cell.vm.isStatics = false ∧ s0.vm.findClass C = some cell.cls
theorem Rc.of {s0 : State} {w : mm} {y t ci N : Nat} {C : String} {T : u_T} {ty : Nat → FieldType} {fs : List Value} (cd : Cd ci C T N ty) (h : w y = some (t, .inr (ci, fs))) : Rc s0 w y C := Or.inl ⟨t, ci, fs, T, N, h, cd.1⟩
theorem Rc.old {s0 : State} {w : mm} {y : Nat} {C : String} {A : Nat → Prop} (h : va_O C y A s0 s0.heap) : Rc s0 w y C := by
  obtain ⟨cell, h1, h2, h3, -⟩ := h
  exact Or.inr ⟨cell, h1, h2, h3⟩
section RY
variable {p : Program} {l : Launch} {e : Env} {R : Room} {s : State} {m : MethodId} {args : Array Value} {below : List Frame} {meth : Method} {c : Code} {H : Heap} {locs : List Loc} {cells slots : Nat} {Q : State → Prop}
variable {cc : ByteArray} {nL : Nat} {own : String} {s0 : State} {D : va_G} {G : Nat → Nat} {w : mm} {pc : Nat} {ls : Array Slot} {rest st0 : List Value}
theorem Rc.cell (M : Mx p m c cc nL s args own s0 D G) (hP : Px s0 D w H locs) {y : Nat} {C : String} (h : Rc s0 w y C) : ∃ cellV : Cell, H[y]? = some cellV ∧ cellV.vm.isStatics = false ∧ s.vm.findClass C = some cellV.cls := by
  rcases h with ⟨t, ci, fs, T, N, h, hc⟩ | ⟨cell, h1, h2, h3⟩
  · exact va_recv M.2.2 (hP.one h) hc (q0 := 0) rfl
  · have hl : y < s0.heap.size := (Array.getElem?_eq_some_iff.mp h1).1
    exact ⟨cell, by rw [hP.2.1 y hl]; exact h1, h2, by rw [M.2.1.alike.findClass]; exact h3⟩
/-! arrays: reading -/
theorem r_iald (M : Mx p m c cc nL s args own s0 D G) (hP : Px s0 D w H locs) {a t n : Nat} {f : Nat → Int32} (hw : w a = some (t, eI G n f)) {i : Int32} (hin : vp_in i n) (hdg : decode cc pc = .ok (.iaload, 1))
    (kk : W p l e R s m args below meth c H locs cells slots Q (F0 m (pc + 1) ls (.int (f i.toNatClampNeg) :: rest))) : W p l e R s m args below meth c H locs cells slots Q (F0 m pc ls (.int i :: .ref a :: rest)) :=
  va_iald M.1.1 M.1.2.1 M.2.2 (hP.one hw) 0 0 rfl rfl hin hdg kk
theorem r_lald (M : Mx p m c cc nL s args own s0 D G) (hP : Px s0 D w H locs) {a t n : Nat} {f : Nat → Int64} (hw : w a = some (t, eJ G n f)) {i : Int32} (hin : vp_in i n) (hdg : decode cc pc = .ok (.laload, 1))
    (kk : W p l e R s m args below meth c H locs cells slots Q (F0 m (pc + 1) ls (.long (f i.toNatClampNeg) :: rest))) : W p l e R s m args below meth c H locs cells slots Q (F0 m pc ls (.int i :: .ref a :: rest)) :=
  va_lald M.1.1 M.1.2.1 M.2.2 (hP.one hw) 0 1 rfl rfl hin hdg kk
theorem r_zald (M : Mx p m c cc nL s args own s0 D G) (hP : Px s0 D w H locs) {a t n : Nat} {f : Nat → Int32} (hw : w a = some (t, eZ G n f)) {i : Int32} (hin : vp_in i n) (hdg : decode cc pc = .ok (.baload, 1))
    (kk : W p l e R s m args below meth c H locs cells slots Q (F0 m (pc + 1) ls (.int (f i.toNatClampNeg) :: rest))) : W p l e R s m args below meth c H locs cells slots Q (F0 m pc ls (.int i :: .ref a :: rest)) :=
  va_zald M.1.1 M.1.2.1 M.2.2 (hP.one hw) 0 2 rfl rfl hin hdg kk
theorem r_aald (M : Mx p m c cc nL s args own s0 D G) (hP : Px s0 D w H locs) {a t n : Nat} {f : Nat → Option Nat} (hw : w a = some (t, eO G n f)) {i : Int32} (hin : vp_in i n) (hdg : decode cc pc = .ok (.aaload, 1))
    (kk : W p l e R s m args below meth c H locs cells slots Q (F0 m (pc + 1) ls (va_rf (f i.toNatClampNeg) :: rest))) : W p l e R s m args below meth c H locs cells slots Q (F0 m pc ls (.int i :: .ref a :: rest)) :=
  va_aldq M.1.1 M.1.2.1 M.2.2 (hP.one hw) 0 3 rfl rfl hin hdg kk
theorem r_aaldP (M : Mx p m c cc nL s args own s0 D G) (hP : Px s0 D w H locs) {a t n : Nat} {f : Nat → Option Nat} (hw : w a = some (t, eP G n f)) {i : Int32} (hin : vp_in i n) (hdg : decode cc pc = .ok (.aaload, 1))
    (kk : W p l e R s m args below meth c H locs cells slots Q (F0 m (pc + 1) ls (va_rf (f i.toNatClampNeg) :: rest))) : W p l e R s m args below meth c H locs cells slots Q (F0 m pc ls (.int i :: .ref a :: rest)) :=
  va_aldq M.1.1 M.1.2.1 M.2.2 (hP.one hw) 0 4 rfl rfl hin hdg kk
theorem r_alenO (M : Mx p m c cc nL s args own s0 D G) (hP : Px s0 D w H locs) {a t n : Nat} {f : Nat → Option Nat} (hw : w a = some (t, eO G n f)) (hdg : decode cc pc = .ok (.arraylength, 1))
    (kk : W p l e R s m args below meth c H locs cells slots Q (F0 m (pc + 1) ls (.int (nI n) :: rest))) : W p l e R s m args below meth c H locs cells slots Q (F0 m pc ls (.ref a :: rest)) :=
  va_alen (v := Int32.ofNat n) M.1.1 M.1.2.1 M.2.2 (hP.one hw) 0 3 rfl rfl rfl hdg kk
/-! a static that nobody writes -/
theorem r_gets (M : Mx p m c cc nL s args own s0 D G) (hP : Px s0 D w H locs) {C n d ref : String} {v : Value} {index : Nat} (hZ : va_Z C n d v (Fr s0) s0 s0.heap) (hlink : Cond.fieldLink own index ref n d ∈ lw_all) (hsame : ∀ x, s.fieldFound? C n d = some x → s.fieldFound? ref n d = some x) (hdg : decode cc pc = .ok (.getstatic index, 3))
    (kk : W p l e R s m args below meth c H locs cells slots Q (F0 m (pc + 3) ls (v :: rest))) : W p l e R s m args below meth c H locs cells slots Q (F0 m pc ls rest) := by
  obtain ⟨cf, kf, fi, f, a, cell, h1, h2, h3, h4, h5, h6, h7, -⟩ := hZ.moved M.2.1.alike
  have hl : a < s0.heap.size := (Array.getElem?_eq_some_iff.mp h5).1
  exact W.gets M.1.1 M.1.2.1 M.1.2.2.2.1 (M.1.2.2.2.2 _ hlink) (hsame _ h1) h2 h3 h4 (by rw [hP.2.1 a hl]; exact h5) (fun e => by rw [e] at h6; cases h6) h7 rfl hdg kk
theorem r_emlen (M : Mx p m c cc nL s args own s0 D G) (hP : Px s0 D w H locs) {a N : Nat} {ty : FieldType} {f : Nat → Value} (hT : va_T ty a N f (Fr s0) s0 s0.heap) (hdg : decode cc pc = .ok (.arraylength, 1))
    (kk : W p l e R s m args below meth c H locs cells slots Q (F0 m (pc + 1) ls (.int (nI N) :: rest))) : W p l e R s m args below meth c H locs cells slots Q (F0 m pc ls (.ref a :: rest)) := by
  obtain ⟨cell, h1, h2, h3, h4, h5, h6, h7⟩ := hT.moved M.2.1.alike
  have hl : a < s0.heap.size := (Array.getElem?_eq_some_iff.mp h1).1
  exact W.alen (n := Int32.ofNat N) M.1.1 M.1.2.1 (by rw [hP.2.1 a hl]; exact h1) h2 h5 rfl rfl hdg kk
theorem r_tq (M : Mx p m c cc nL s args own s0 D G) (hP : Px s0 D w H locs) {a N : Nat} {C : String} {f : Nat → Value} (hT : va_T (.object C) a N f (Fr s0) s0 s0.heap) {i : Int32} (hin : vp_in i N) (hdg : decode cc pc = .ok (.aaload, 1))
    (kk : W p l e R s m args below meth c H locs cells slots Q (F0 m (pc + 1) ls (f i.toNatClampNeg :: rest))) : W p l e R s m args below meth c H locs cells slots Q (F0 m pc ls (.int i :: .ref a :: rest)) := by
  obtain ⟨cell, h1, h2, h3, h4, h5, h6, h7⟩ := hT.moved M.2.1.alike
  have hl : a < s0.heap.size := (Array.getElem?_eq_some_iff.mp h1).1
  have hlt : i.toNatClampNeg < N := Nat.not_le.mp fun q => hin (Or.inr q)
  have hin' : ¬ (i < 0 ∨ cell.slots.size ≤ i.toNatClampNeg) := by
    intro q
    rcases q with q | q
    · exact hin (Or.inl q)
    · omega
  exact W.aald (v := f i.toNatClampNeg) (ty := .object C) M.1.1 M.1.2.1 (by rw [hP.2.1 a hl]; exact h1) h2 rfl h3 hin' (h6 _ hlt) rfl rfl hdg kk
theorem r_getO (M : Mx p m c cc nL s args own s0 D G) (hP : Px s0 D w H locs) {a index : Nat} {o n d ref : String} {v : Value} (hO : va_OF o n d v a (Fr s0) s0 s0.heap) (hlink : Cond.fieldLink own index ref n d ∈ lw_all) (hsame : ∀ x, s.fieldFound? o n d = some x → s.fieldFound? ref n d = some x) (hdg : decode cc pc = .ok (.getfield index, 3))
    (kk : W p l e R s m args below meth c H locs cells slots Q (F0 m (pc + 3) ls (v :: rest))) : W p l e R s m args below meth c H locs cells slots Q (F0 m pc ls (.ref a :: rest)) := by
  obtain ⟨cf, k, fi, f, cell, h1, h2, h3, h4, h5, h6⟩ := hO.moved M.2.1.alike
  have hl : a < s0.heap.size := (Array.getElem?_eq_some_iff.mp h3).1
  exact W.getf M.1.1 M.1.2.1 M.1.2.2.2.1 (M.1.2.2.2.2 _ hlink) (hsame _ h1) h2 (by rw [hP.2.1 a hl]; exact h3) h4 (v := v) h5 rfl rfl hdg kk
/-! arrays: writing -/
theorem r_iast (M : Mx p m c cc nL s args own s0 D G) (hP : Px s0 D w H locs) {a t n : Nat} {f : Nat → Int32} (hw : w a = some (t, eI G n f)) {i x : Int32} (hin : vp_in i n) (hdg : decode cc pc = .ok (.iastore, 1))
    (kk : ∀ (H1 : Heap) (locs1 : List Loc), Px s0 D (mset w a (t, eI G n (upd f i.toNatClampNeg x))) H1 locs1 → W p l e R s m args below meth c H1 locs1 cells slots Q (F0 m (pc + 1) ls rest)) : W p l e R s m args below meth c H locs cells slots Q (F0 m pc ls (.int x :: .int i :: .ref a :: rest)) := by
  refine W.iast M.1.1 M.1.2.1 (hP.at hw) ((M.2.2.2 0 _ rfl).1 n (fun j => .int (f j))) (fun q => by cases q) (by show ¬ (i < 0 ∨ (arrV _ _ _).slots.size ≤ _); rw [arrV_size]; exact hin) rfl rfl hdg fun H1 e z oq => ?_
  refine kk H1 _ (hP.put hw t ?_ z oq)
  show H1[a]? = some (vp_cell _ _)
  rw [e]
  rw [vp_cell_i, vp_cell_i, arrV_store]
  congr 2
  funext q
  by_cases hq : q = i.toNatClampNeg
  · subst hq
    simp [updV, upd]
  · simp [updV, upd, hq]
theorem r_last (M : Mx p m c cc nL s args own s0 D G) (hP : Px s0 D w H locs) {a t n : Nat} {f : Nat → Int64} (hw : w a = some (t, eJ G n f)) {i : Int32} {x : Int64} (hin : vp_in i n) (hdg : decode cc pc = .ok (.lastore, 1))
    (kk : ∀ (H1 : Heap) (locs1 : List Loc), Px s0 D (mset w a (t, eJ G n (vp_updL f i.toNatClampNeg x))) H1 locs1 → W p l e R s m args below meth c H1 locs1 cells slots Q (F0 m (pc + 1) ls rest)) : W p l e R s m args below meth c H locs cells slots Q (F0 m pc ls (.long x :: .int i :: .ref a :: rest)) := by
  refine W.last M.1.1 M.1.2.1 (hP.at hw) ((M.2.2.2 1 _ rfl).1 n (fun j => .long (f j))) (fun q => by cases q) (by show ¬ (i < 0 ∨ (arrV _ _ _).slots.size ≤ _); rw [arrV_size]; exact hin) rfl rfl hdg fun H1 e z oq => ?_
  refine kk H1 _ (hP.put hw t ?_ z oq)
  show H1[a]? = some (vp_cell _ _)
  rw [e]
  rw [vp_cell_l, vp_cell_l, arrV_store]
  congr 2
  funext q
  by_cases hq : q = i.toNatClampNeg
  · subst hq
    simp [updV, vp_updL]
  · simp [updV, vp_updL, hq]
theorem r_zast (M : Mx p m c cc nL s args own s0 D G) (hP : Px s0 D w H locs) {a t n : Nat} {f : Nat → Int32} (hw : w a = some (t, eZ G n f)) {i x y : Int32} (hin : vp_in i n) (hy : vp_nar .boolean x = y) (hdg : decode cc pc = .ok (.bastore, 1))
    (kk : ∀ (H1 : Heap) (locs1 : List Loc), Px s0 D (mset w a (t, eZ G n (upd f i.toNatClampNeg y))) H1 locs1 → W p l e R s m args below meth c H1 locs1 cells slots Q (F0 m (pc + 1) ls rest)) : W p l e R s m args below meth c H locs cells slots Q (F0 m pc ls (.int x :: .int i :: .ref a :: rest)) := by
  subst hy
  refine W.zast M.1.1 M.1.2.1 (hP.at hw) ((M.2.2.2 2 _ rfl).1 n (fun j => .int (f j))) (fun q => by cases q) (by show ¬ (i < 0 ∨ (arrV _ _ _).slots.size ≤ _); rw [arrV_size]; exact hin) rfl rfl hdg fun H1 e z oq => ?_
  refine kk H1 _ (hP.put hw t ?_ z oq)
  show H1[a]? = some (vp_cell _ _)
  rw [e]
  rw [vp_cell_i, vp_cell_i, arrV_store]
  congr 2
  funext q
  by_cases hq : q = i.toNatClampNeg
  · subst hq
    simp [updV, upd, vp_nar, narrow]
  · simp [updV, upd, hq]
theorem r_aast (M : Mx p m c cc nL s args own s0 D G) (hP : Px s0 D w H locs) {a t n v : Nat} {C : String} {f : Nat → Option Nat} (hw : w a = some (t, eO G n f)) (hr : Rc s0 w v C) (hca : va_Nw (.castable C "java/lang/Object") s) {i : Int32} (hin : vp_in i n) (hdg : decode cc pc = .ok (.aastore, 1))
    (kk : ∀ (H1 : Heap) (locs1 : List Loc), Px s0 D (mset w a (t, eO G n (va_up f i.toNatClampNeg (some v)))) H1 locs1 → W p l e R s m args below meth c H1 locs1 cells slots Q (F0 m (pc + 1) ls rest)) : W p l e R s m args below meth c H locs cells slots Q (F0 m pc ls (.ref v :: .int i :: .ref a :: rest)) := by
  have hlt : i.toNatClampNeg < n := Nat.not_le.mp fun q => hin (Or.inr q)
  have h0 : ¬ i < 0 := fun q => hin (Or.inl q)
  obtain ⟨cellV, g1, g3, g2⟩ := hr.cell M hP
  obtain ⟨kA, comp, k1, k2, k3, -⟩ := (M.2.2.2 3 _ rfl).2
  obtain ⟨kE, hkE, -⟩ := Vm.findClass_spec k3
  obtain ⟨kC, hkC, -⟩ := Vm.findClass_spec g2
  refine W.aast M.1.1 M.1.2.1 (hP.at hw) (fun q h => by cases h) (fun h => by cases h) k1 k2 rfl hkE ⟨h0, by show _ < (arrV _ _ _).slots.size; rw [arrV_size]; exact hlt⟩ g1 (fun q h => by rw [h] at g3; cases g3) hkC (vb_asgC hca _ _ k3 g2) rfl rfl hdg fun H1 e z oq => ?_
  refine kk H1 _ (hP.put hw t ?_ z oq)
  show H1[a]? = some (vp_cell _ _)
  rw [e]
  rw [vp_cell_q, vp_cell_q, arrV_store]
  congr 2
  funext q
  by_cases hq : q = i.toNatClampNeg
  · subst hq
    simp [updV, va_up, va_rf]
  · simp [updV, va_up, hq]
theorem r_aastN (M : Mx p m c cc nL s args own s0 D G) (hP : Px s0 D w H locs) {a t n : Nat} {f : Nat → Option Nat} (hw : w a = some (t, eO G n f)) {i : Int32} (hin : vp_in i n) (hdg : decode cc pc = .ok (.aastore, 1))
    (kk : ∀ (H1 : Heap) (locs1 : List Loc), Px s0 D (mset w a (t, eO G n (va_up f i.toNatClampNeg none))) H1 locs1 → W p l e R s m args below meth c H1 locs1 cells slots Q (F0 m (pc + 1) ls rest)) : W p l e R s m args below meth c H locs cells slots Q (F0 m pc ls (.null :: .int i :: .ref a :: rest)) := by
  refine va_WaastN (C := "java/lang/Object") M.1.1 M.1.2.1 (hP.at hw) ((M.2.2.2 3 _ rfl).1 n (fun j => va_rf (f j))) (fun h => by cases h) (by show ¬ (i < 0 ∨ (arrV _ _ _).slots.size ≤ _); rw [arrV_size]; exact hin) rfl rfl hdg fun H1 e z oq => ?_
  refine kk H1 _ (hP.put hw t ?_ z oq)
  show H1[a]? = some (vp_cell _ _)
  rw [e]
  rw [vp_cell_q, vp_cell_q, arrV_store]
  congr 2
  funext q
  by_cases hq : q = i.toNatClampNeg
  · subst hq
    simp [updV, va_up, va_rf]
  · simp [updV, va_up, hq]
theorem r_aastP (M : Mx p m c cc nL s args own s0 D G) (hP : Px s0 D w H locs) {a t n v u : Nat} {fs : List Value} {f : Nat → Option Nat} (hw : w a = some (t, eP G n f)) (hv : w v = some (u, .inr (1, fs))) {i : Int32} (hin : vp_in i n) (hdg : decode cc pc = .ok (.aastore, 1))
    (kk : ∀ (H1 : Heap) (locs1 : List Loc), Px s0 D (mset w a (t, eP G n (va_up f i.toNatClampNeg (some v)))) H1 locs1 → W p l e R s m args below meth c H1 locs1 cells slots Q (F0 m (pc + 1) ls rest)) : W p l e R s m args below meth c H locs cells slots Q (F0 m pc ls (.ref v :: .int i :: .ref a :: rest)) := by
  have hlt : i.toNatClampNeg < n := Nat.not_le.mp fun q => hin (Or.inr q)
  have h0 : ¬ i < 0 := fun q => hin (Or.inl q)
  obtain ⟨cellV, g1, g3, g2⟩ := (Rc.of cdX1 hv).cell M hP
  obtain ⟨kA, comp, k1, k2, k3, -⟩ := (M.2.2.2 4 _ rfl).2
  obtain ⟨kE, hkE, -⟩ := Vm.findClass_spec k3
  obtain ⟨kC, hkC, -⟩ := Vm.findClass_spec g2
  refine W.aast M.1.1 M.1.2.1 (hP.at hw) (fun q h => by cases h) (fun h => by cases h) k1 k2 rfl hkE ⟨h0, by show _ < (arrV _ _ _).slots.size; rw [arrV_size]; exact hlt⟩ g1 (fun q h => by rw [h] at g3; cases g3) hkC (vb_asgS _ _ k3 g2) rfl rfl hdg fun H1 e z oq => ?_
  refine kk H1 _ (hP.put hw t ?_ z oq)
  show H1[a]? = some (vp_cell _ _)
  rw [e]
  rw [vp_cell_q, vp_cell_q, arrV_store]
  congr 2
  funext q
  by_cases hq : q = i.toNatClampNeg
  · subst hq
    simp [updV, va_up, va_rf]
  · simp [updV, va_up, hq]
/-! arrays: making -/
theorem r_newI (M : Mx p m c cc nL s args own s0 D G) (hP : Px s0 D w H locs) (u : Nat) {n : Int32} {N' : Nat} (hn : ¬ n < 0) (hN : n.toNatClampNeg = N') (hbytes : N' * 4 ≤ 536870912) (hcells : cells + 1 ≤ R.cells) (hslots : slots + N' ≤ R.slots) (hdg : decode cc pc = .ok (.newarray .int, 2))
    (kk : ∀ (q : Nat) (H1 : Heap), w q = none → Px s0 D (mset w q (u, eI G N' (fun _ => 0))) H1 locs → W p l e R s m args below meth c H1 locs (cells + 1) (slots + N') Q (F0 m (pc + 2) ls (.ref q :: rest))) : W p l e R s m args below meth c H locs cells slots Q (F0 m pc ls (.int n :: rest)) := by
  refine va_newaK (atype := .int) M.1.1 M.1.2.1 (M.1.2.2.2.2 _ q443) rfl hdg rfl hn hN hbytes hcells hslots rfl fun H1 cA e1 z1 o1 hAr hNm => ?_
  have hc : cA = G 0 := Option.some.inj (hNm.symm.trans (M.2.2.2 0 _ rfl).2)
  subst hc
  exact kk H.size H1 (hP.fresh (Nat.le_refl _)) (hP.new e1 z1 o1)
theorem r_newJ (M : Mx p m c cc nL s args own s0 D G) (hP : Px s0 D w H locs) (u : Nat) {n : Int32} {N' : Nat} (hn : ¬ n < 0) (hN : n.toNatClampNeg = N') (hbytes : N' * 8 ≤ 536870912) (hcells : cells + 1 ≤ R.cells) (hslots : slots + N' ≤ R.slots) (hdg : decode cc pc = .ok (.newarray .long, 2))
    (kk : ∀ (q : Nat) (H1 : Heap), w q = none → Px s0 D (mset w q (u, eJ G N' (fun _ => 0))) H1 locs → W p l e R s m args below meth c H1 locs (cells + 1) (slots + N') Q (F0 m (pc + 2) ls (.ref q :: rest))) : W p l e R s m args below meth c H locs cells slots Q (F0 m pc ls (.int n :: rest)) := by
  refine va_newaK (atype := .long) M.1.1 M.1.2.1 (M.1.2.2.2.2 _ q604) rfl hdg rfl hn hN hbytes hcells hslots rfl fun H1 cA e1 z1 o1 hAr hNm => ?_
  have hc : cA = G 1 := Option.some.inj (hNm.symm.trans (M.2.2.2 1 _ rfl).2)
  subst hc
  exact kk H.size H1 (hP.fresh (Nat.le_refl _)) (hP.new e1 z1 o1)
theorem r_newZ (M : Mx p m c cc nL s args own s0 D G) (hP : Px s0 D w H locs) (u : Nat) {n : Int32} {N' : Nat} (hn : ¬ n < 0) (hN : n.toNatClampNeg = N') (hbytes : N' * 1 ≤ 536870912) (hcells : cells + 1 ≤ R.cells) (hslots : slots + N' ≤ R.slots) (hdg : decode cc pc = .ok (.newarray .boolean, 2))
    (kk : ∀ (q : Nat) (H1 : Heap), w q = none → Px s0 D (mset w q (u, eZ G N' (fun _ => 0))) H1 locs → W p l e R s m args below meth c H1 locs (cells + 1) (slots + N') Q (F0 m (pc + 2) ls (.ref q :: rest))) : W p l e R s m args below meth c H locs cells slots Q (F0 m pc ls (.int n :: rest)) := by
  refine va_newaK (atype := .boolean) M.1.1 M.1.2.1 (M.1.2.2.2.2 _ q605) rfl hdg rfl hn hN hbytes hcells hslots rfl fun H1 cA e1 z1 o1 hAr hNm => ?_
  have hc : cA = G 2 := Option.some.inj (hNm.symm.trans (M.2.2.2 2 _ rfl).2)
  subst hc
  exact kk H.size H1 (hP.fresh (Nat.le_refl _)) (hP.new e1 z1 o1)
theorem r_newO (M : Mx p m c cc nL s args own s0 D G) (hP : Px s0 D w H locs) (u : Nat) {index : Nat} (hclink : Cond.classLink own index "java/lang/Object" ∈ lw_all) (hover : va_AO "java/lang/Object" s) {n : Int32} {N' : Nat} (hn : ¬ n < 0) (hN : n.toNatClampNeg = N') (hbytes : N' * 4 ≤ 536870912) (hcells : cells + 1 ≤ R.cells) (hslots : slots + N' ≤ R.slots) (hdg : decode cc pc = .ok (.anewarray index, 3))
    (kk : ∀ (q : Nat) (H1 : Heap), w q = none → Px s0 D (mset w q (u, eO G N' (fun _ => none))) H1 locs → W p l e R s m args below meth c H1 locs (cells + 1) (slots + N') Q (F0 m (pc + 3) ls (.ref q :: rest))) : W p l e R s m args below meth c H locs cells slots Q (F0 m pc ls (.int n :: rest)) := by
  subst hN
  refine W.anew M.1.1 M.1.2.1 M.1.2.2.2.1 (M.1.2.2.2.2 _ hclink) (va_AO.use hover) rfl hdg rfl hn hbytes hcells hslots fun cA kA comp f1 f2 f3 f4 => ?_
  obtain ⟨_, _, _, _, _, h4⟩ := (M.2.2.2 3 _ rfl).2
  have hc : cA = G 3 := Option.some.inj (f1.symm.trans h4)
  subst hc
  refine kk H.size _ (hP.fresh (Nat.le_refl _)) (hP.new (H1 := H.push ({ cls := G 3, slots := Array.replicate n.toNatClampNeg .null, vm := .none } : Cell)) ?_ (Array.size_push _) (fun q hq => by rw [Array.getElem?_push, if_neg (Nat.ne_of_lt hq)]))
  show (H.push _)[H.size]? = some (vp_cell _ _)
  rw [vp_cell_q, Array.getElem?_push_size, ← arrV_new]
  rfl
theorem r_newP (M : Mx p m c cc nL s args own s0 D G) (hP : Px s0 D w H locs) (u : Nat) {index : Nat} (hclink : Cond.classLink own index "MainframeDesk$Part" ∈ lw_all) (hover : va_AO "MainframeDesk$Part" s) {n : Int32} {N' : Nat} (hn : ¬ n < 0) (hN : n.toNatClampNeg = N') (hbytes : N' * 4 ≤ 536870912) (hcells : cells + 1 ≤ R.cells) (hslots : slots + N' ≤ R.slots) (hdg : decode cc pc = .ok (.anewarray index, 3))
    (kk : ∀ (q : Nat) (H1 : Heap), w q = none → Px s0 D (mset w q (u, eP G N' (fun _ => none))) H1 locs → W p l e R s m args below meth c H1 locs (cells + 1) (slots + N') Q (F0 m (pc + 3) ls (.ref q :: rest))) : W p l e R s m args below meth c H locs cells slots Q (F0 m pc ls (.int n :: rest)) := by
  subst hN
  refine W.anew M.1.1 M.1.2.1 M.1.2.2.2.1 (M.1.2.2.2.2 _ hclink) (va_AO.use hover) rfl hdg rfl hn hbytes hcells hslots fun cA kA comp f1 f2 f3 f4 => ?_
  obtain ⟨_, _, _, _, _, h4⟩ := (M.2.2.2 4 _ rfl).2
  have hc : cA = G 4 := Option.some.inj (f1.symm.trans h4)
  subst hc
  refine kk H.size _ (hP.fresh (Nat.le_refl _)) (hP.new (H1 := H.push ({ cls := G 4, slots := Array.replicate n.toNatClampNeg .null, vm := .none } : Cell)) ?_ (Array.size_push _) (fun q hq => by rw [Array.getElem?_push, if_neg (Nat.ne_of_lt hq)]))
  show (H.push _)[H.size]? = some (vp_cell _ _)
  rw [vp_cell_q, Array.getElem?_push_size, ← arrV_new]
  rfl
/-! calls -/
theorem Px.pre (M : Mx p m c cc nL s args own s0 D G) (hP : Px s0 D w H locs) {av : List Value} : ∀ U : State, U.heap = H → s.WarmedH U.vm → va_Pc av (Cx s0 D w) av.toArray U := fun U hU hW => ⟨rfl, State.WarmedH.trans M.2.1 hW, by rw [hU]; exact hP.nil⟩
theorem r_runV (n : Nat) (M : Mx p m c cc nL s args own s0 D G) {y : MethodName} {bytes : ByteArray} {maxL index b : Nat} {ret : Option FieldType} {rm : Room} {Qc : Array Value → State → Outcome → State → Prop} {As : List Value} {C : String} (hM : Met l y (ws_ y bytes maxL ret) rm (va_Pc (.ref b :: As) (Cx s0 D w)) Qc rm.cells rm.slots (Fr s0)) (hP : Px s0 D w H locs) (hr : Rc s0 w b C) (hG : GoodIn lw_all (wsV own index C y (ws_ y bytes maxL ret)))
    (hd : y.cls = C ∧ y.cls ≠ "java/lang/invoke/MethodHandle" ∧ y.cls ≠ "java/lang/invoke/VarHandle" ∧ (parseMethodDescriptor y.desc).map (fun d => d.parameters.length) = some n) (hn : As.length = n) (hR : rm.frames + 1 ≤ R.frames ∧ 8 + (maxL + 11) + rm.locals ≤ R.locals) (hsz : ls.size = nL) (hst : st0 = As.reverse ++ .ref b :: rest) (hW8 : (rest.map fun v => v.category).sum ≤ 8) (hdg : decode cc pc = .ok (.invokevirtual index, 3)) (hf : cells + rm.cells ≤ R.cells ∧ slots + rm.slots ≤ R.slots) :
    va_Run p l e R s m args below meth c H locs cells slots rm.cells rm.slots (F0 m pc ls st0) rest (Qc (Value.ref b :: As).toArray) (Fr s0) :=
  va_runV M.1 hM (cwV n M.1.2.2.2.2 hG rfl rfl rfl hd hR) ⟨Cx.blind, hr.cell M hP, hP.pre M⟩ rfl hn hsz hst (lv_room hW8) hdg hf
theorem r_runS (n : Nat) (M : Mx p m c cc nL s args own s0 D G) {y : MethodName} {bytes : ByteArray} {maxL index : Nat} {ret : Option FieldType} {rm : Room} {Qc : Array Value → State → Outcome → State → Prop} {As : List Value} (hM : Met l y (ws_ y bytes maxL ret) rm (va_Pc As (Cx s0 D w)) Qc rm.cells rm.slots (Fr s0)) (hP : Px s0 D w H locs) (hG : GoodIn lw_all (va_wsS own index y (ws_ y bytes maxL ret)))
    (hd : y.cls ≠ "java/lang/invoke/MethodHandle" ∧ y.cls ≠ "java/lang/invoke/VarHandle" ∧ (parseMethodDescriptor y.desc).map (fun d => d.parameters.length) = some n) (hn : As.length = n) (hR : rm.frames + 1 ≤ R.frames ∧ 8 + (maxL + 11) + rm.locals ≤ R.locals) (hsz : ls.size = nL) (hst : st0 = As.reverse ++ rest) (hW8 : (rest.map fun v => v.category).sum ≤ 8) (hdg : decode cc pc = .ok (.invokestatic index, 3)) (hf : cells + rm.cells ≤ R.cells ∧ slots + rm.slots ≤ R.slots) :
    va_Run p l e R s m args below meth c H locs cells slots rm.cells rm.slots (F0 m pc ls st0) rest (Qc As.toArray) (Fr s0) :=
  va_runS M.1 hM (va_cwS n M.1.2.2.2.2 hG rfl rfl rfl hd hR) ⟨Cx.blind, hP.pre M⟩ rfl hn hsz hst (lv_room hW8) hdg hf
theorem r_runI (n : Nat) (M : Mx p m c cc nL s args own s0 D G) {y : MethodName} {bytes : ByteArray} {maxL index b : Nat} {rm : Room} {Qc : Array Value → State → Outcome → State → Prop} {As : List Value} (hM : Met l y (ws_ y bytes maxL none) rm (va_Pc (.ref b :: As) (Cx s0 D w)) Qc rm.cells rm.slots (Fr s0)) (hP : Px s0 D w H locs) (hcode : Cond.code y bytes maxL none ∈ lw_all) (hini : Cond.initialized y.cls ∈ lw_all) (hl : Cond.methodLink own index y ∈ lw_all) (hin : Cond.instanceMethod y ∈ lw_all) (hy : y.name = "<init>")
    (hd : y.cls ≠ "java/lang/invoke/MethodHandle" ∧ y.cls ≠ "java/lang/invoke/VarHandle" ∧ (parseMethodDescriptor y.desc).map (fun d => d.parameters.length) = some n) (hn : As.length = n) (hR : rm.frames + 1 ≤ R.frames ∧ 8 + (maxL + 11) + rm.locals ≤ R.locals) (hsz : ls.size = nL) (hst : st0 = As.reverse ++ .ref b :: rest) (hW8 : (rest.map fun v => v.category).sum ≤ 8) (hdg : decode cc pc = .ok (.invokespecial index, 3)) (hf : cells + rm.cells ≤ R.cells ∧ slots + rm.slots ≤ R.slots) :
    va_Run p l e R s m args below meth c H locs cells slots rm.cells rm.slots (F0 m pc ls st0) rest (Qc (Value.ref b :: As).toArray) (Fr s0) :=
  va_runI M.1 hM (cwI n M.1.2.2.2.2 (lw_meth hcode) rfl rfl rfl (M.1.2.2.2.2 _ hini) (M.1.2.2.2.2 _ hl) (M.1.2.2.2.2 _ hin) hy hd hR) ⟨Cx.blind, hP.pre M⟩ rfl hn hsz hst (lv_room hW8) hdg hf
theorem r_runIN (n : Nat) (M : Mx p m c cc nL s args own s0 D G) {y : MethodName} {host : String} {bytes : ByteArray} {maxL index b : Nat} {rm : Room} {Qc : Array Value → State → Outcome → State → Prop} {As : List Value} (hM : Met l y (ws_ y bytes maxL none) rm (va_Pc (.ref b :: As) (Cx s0 D w)) Qc rm.cells rm.slots (Fr s0)) (hP : Px s0 D w H locs) (hcode : Cond.code y bytes maxL none ∈ lw_all) (hini : Cond.initialized y.cls ∈ lw_all) (hl : va_Nw (.methodLinkNest own index y host) s) (hin : Cond.instanceMethod y ∈ lw_all) (hy : y.name = "<init>")
    (hd : y.cls ≠ "java/lang/invoke/MethodHandle" ∧ y.cls ≠ "java/lang/invoke/VarHandle" ∧ (parseMethodDescriptor y.desc).map (fun d => d.parameters.length) = some n) (hn : As.length = n) (hR : rm.frames + 1 ≤ R.frames ∧ 8 + (maxL + 11) + rm.locals ≤ R.locals) (hsz : ls.size = nL) (hst : st0 = As.reverse ++ .ref b :: rest) (hW8 : (rest.map fun v => v.category).sum ≤ 8) (hdg : decode cc pc = .ok (.invokespecial index, 3)) (hf : cells + rm.cells ≤ R.cells ∧ slots + rm.slots ≤ R.slots) :
    va_Run p l e R s m args below meth c H locs cells slots rm.cells rm.slots (F0 m pc ls st0) rest (Qc (Value.ref b :: As).toArray) (Fr s0) :=
  va_runIN M.1 hM ⟨va_cnB n M.1.2.2.2.2 (lw_meth hcode) rfl rfl rfl hl (M.1.2.2.2.2 _ hini) hd hR, hy, M.1.2.2.2.2 _ hin⟩ ⟨Cx.blind, hP.pre M⟩ rfl hn hsz hst (lv_room hW8) hdg hf
theorem r_runF (n : Nat) (M : Mx p m c cc nL s args own s0 D G) {x y : MethodName} {bytes : ByteArray} {maxL index count b ci N : Nat} {ret : Option FieldType} {rm : Room} {Qc : Array Value → State → Outcome → State → Prop} {As : List Value} {C : String} {T : u_T} {ty : Nat → FieldType} (cd : Cd ci C T N ty) (hM : Met l y (ws_ y bytes maxL ret) rm (va_Pc (.ref b :: As) (Cx s0 D w)) Qc rm.cells rm.slots (Fr s0)) (hP : Px s0 D w H locs) (hr : Rc s0 w b C) (hl : Cond.methodLink own index x ∈ lw_all) (hse : Cond.selects C x y ∈ lw_all) (hin : Cond.instanceMethod y ∈ lw_all) (hini : Cond.initialized y.cls ∈ lw_all) (hcode : Cond.code y bytes maxL ret ∈ lw_all) (hF : va_Fw C x y s)
    (hd : x.cls ≠ "java/lang/invoke/MethodHandle" ∧ x.cls ≠ "java/lang/invoke/VarHandle" ∧ (parseMethodDescriptor x.desc).map (fun d => d.parameters.length) = some n) (hn : As.length = n) (hR : rm.frames + 1 ≤ R.frames ∧ 8 + (maxL + 11) + rm.locals ≤ R.locals) (hsz : ls.size = nL) (hst : st0 = As.reverse ++ .ref b :: rest) (hW8 : (rest.map fun v => v.category).sum ≤ 8) (hdg : decode cc pc = .ok (.invokeinterface index count, 5)) (hf : cells + rm.cells ≤ R.cells ∧ slots + rm.slots ≤ R.slots) :
    va_Run5 p l e R s m args below meth c H locs cells slots rm.cells rm.slots (F0 m pc ls st0) rest (Qc (Value.ref b :: As).toArray) (Fr s0) := by
  have hG : GoodIn lw_all (va_wsF own index C x y (ws_ y bytes maxL ret)) := by
    refine lw_app ?_ (lw_meth hcode)
    intro z hz
    simp only [List.mem_cons, List.not_mem_nil, or_false] at hz
    rcases hz with e | e | e | e
    · rw [e]; exact hl
    · rw [e]; exact hse
    · rw [e]; exact hin
    · rw [e]; exact hini
  exact va_runF (M.2.2.1 ci _ cd.1).2 M.1 hM (va_cwF n M.1.2.2.2.2 hG rfl rfl rfl hF hd hR) ⟨Cx.blind, hr.cell M hP, hP.pre M⟩ rfl hn hsz hst (lv_room hW8) hdg hf
variable {a : Array Value} {mc ms : Nat}
theorem c_i {post : Int32 → mm → Prop} (hr : va_Run p l e R s m args below meth c H locs cells slots mc ms (F0 m pc ls st0) rest (Qi s0 D post a) (Fr s0)) (hP : Px s0 D w H locs)
    (kk : ∀ (r : Int32) (w1 : mm) (H1 : Heap) (locs1 : List Loc), post r w1 → Px s0 D w1 H1 locs1 → W p l e R s m args below meth c H1 locs1 (cells + mc) (slots + ms) Q (F0 m (pc + 3) ls (.int r :: rest))) : W p l e R s m args below meth c H locs cells slots Q (F0 m pc ls st0) := by
  intro T hT X
  obtain ⟨v, st₀, t, T', L, h0, X', hL, e1, e2, ⟨r, w1, hv, hp, hb⟩, st⟩ := hr T hT X
  cases hv
  obtain ⟨t2, a1, b1⟩ := kk r w1 T'.heap (locs ++ L) hp (by rw [e1]; exact hb.2.locs hP.2.2.2 hL) T' rfl X'
  exact ⟨t2, st t2 a1, b1⟩
theorem c_l {post : Int64 → mm → Prop} (hr : va_Run p l e R s m args below meth c H locs cells slots mc ms (F0 m pc ls st0) rest (Ql s0 D post a) (Fr s0)) (hP : Px s0 D w H locs)
    (kk : ∀ (r : Int64) (w1 : mm) (H1 : Heap) (locs1 : List Loc), post r w1 → Px s0 D w1 H1 locs1 → W p l e R s m args below meth c H1 locs1 (cells + mc) (slots + ms) Q (F0 m (pc + 3) ls (.long r :: rest))) : W p l e R s m args below meth c H locs cells slots Q (F0 m pc ls st0) := by
  intro T hT X
  obtain ⟨v, st₀, t, T', L, h0, X', hL, e1, e2, ⟨r, w1, hv, hp, hb⟩, st⟩ := hr T hT X
  cases hv
  obtain ⟨t2, a1, b1⟩ := kk r w1 T'.heap (locs ++ L) hp (by rw [e1]; exact hb.2.locs hP.2.2.2 hL) T' rfl X'
  exact ⟨t2, st t2 a1, b1⟩
theorem c_v {post : mm → Prop} (hr : va_Run p l e R s m args below meth c H locs cells slots mc ms (F0 m pc ls st0) rest (Qv s0 D post a) (Fr s0)) (hP : Px s0 D w H locs)
    (kk : ∀ (w1 : mm) (H1 : Heap) (locs1 : List Loc), post w1 → Px s0 D w1 H1 locs1 → W p l e R s m args below meth c H1 locs1 (cells + mc) (slots + ms) Q (F0 m (pc + 3) ls rest)) : W p l e R s m args below meth c H locs cells slots Q (F0 m pc ls st0) := by
  intro T hT X
  obtain ⟨v, st₀, t, T', L, h0, X', hL, e1, e2, ⟨w1, hv, hp, hb⟩, st⟩ := hr T hT X
  cases hv
  obtain ⟨t2, a1, b1⟩ := kk w1 T'.heap (locs ++ L) hp (by rw [e1]; exact hb.2.locs hP.2.2.2 hL) T' rfl X'
  exact ⟨t2, st t2 a1, b1⟩
theorem c_r {post : Nat → mm → Prop} (hr : va_Run p l e R s m args below meth c H locs cells slots mc ms (F0 m pc ls st0) rest (Qr s0 D post a) (Fr s0)) (hP : Px s0 D w H locs)
    (kk : ∀ (r : Nat) (w1 : mm) (H1 : Heap) (locs1 : List Loc), post r w1 → Px s0 D w1 H1 locs1 → W p l e R s m args below meth c H1 locs1 (cells + mc) (slots + ms) Q (F0 m (pc + 3) ls (.ref r :: rest))) : W p l e R s m args below meth c H locs cells slots Q (F0 m pc ls st0) := by
  intro T hT X
  obtain ⟨v, st₀, t, T', L, h0, X', hL, e1, e2, ⟨r, w1, hv, hp, hb⟩, st⟩ := hr T hT X
  cases hv
  obtain ⟨t2, a1, b1⟩ := kk r w1 T'.heap (locs ++ L) hp (by rw [e1]; exact hb.2.locs hP.2.2.2 hL) T' rfl X'
  exact ⟨t2, st t2 a1, b1⟩
theorem c_q {post : Option Nat → mm → Prop} (hr : va_Run p l e R s m args below meth c H locs cells slots mc ms (F0 m pc ls st0) rest (Qq s0 D post a) (Fr s0)) (hP : Px s0 D w H locs)
    (kk : ∀ (r : Option Nat) (w1 : mm) (H1 : Heap) (locs1 : List Loc), post r w1 → Px s0 D w1 H1 locs1 → W p l e R s m args below meth c H1 locs1 (cells + mc) (slots + ms) Q (F0 m (pc + 3) ls (va_rf r :: rest))) : W p l e R s m args below meth c H locs cells slots Q (F0 m pc ls st0) := by
  intro T hT X
  obtain ⟨v, st₀, t, T', L, h0, X', hL, e1, e2, ⟨r, w1, hv, hp, hb⟩, st⟩ := hr T hT X
  cases hv
  obtain ⟨t2, a1, b1⟩ := kk r w1 T'.heap (locs ++ L) hp (by rw [e1]; exact hb.2.locs hP.2.2.2 hL) T' rfl X'
  exact ⟨t2, st t2 a1, b1⟩
theorem c5_i {post : Int32 → mm → Prop} (hr : va_Run5 p l e R s m args below meth c H locs cells slots mc ms (F0 m pc ls st0) rest (Qi s0 D post a) (Fr s0)) (hP : Px s0 D w H locs)
    (kk : ∀ (r : Int32) (w1 : mm) (H1 : Heap) (locs1 : List Loc), post r w1 → Px s0 D w1 H1 locs1 → W p l e R s m args below meth c H1 locs1 (cells + mc) (slots + ms) Q (F0 m (pc + 5) ls (.int r :: rest))) : W p l e R s m args below meth c H locs cells slots Q (F0 m pc ls st0) := by
  intro T hT X
  obtain ⟨v, st₀, t, T', L, h0, X', hL, e1, e2, ⟨r, w1, hv, hp, hb⟩, st⟩ := hr T hT X
  cases hv
  obtain ⟨t2, a1, b1⟩ := kk r w1 T'.heap (locs ++ L) hp (by rw [e1]; exact hb.2.locs hP.2.2.2 hL) T' rfl X'
  exact ⟨t2, st t2 a1, b1⟩
theorem c5_r {post : Nat → mm → Prop} (hr : va_Run5 p l e R s m args below meth c H locs cells slots mc ms (F0 m pc ls st0) rest (Qr s0 D post a) (Fr s0)) (hP : Px s0 D w H locs)
    (kk : ∀ (r : Nat) (w1 : mm) (H1 : Heap) (locs1 : List Loc), post r w1 → Px s0 D w1 H1 locs1 → W p l e R s m args below meth c H1 locs1 (cells + mc) (slots + ms) Q (F0 m (pc + 5) ls (.ref r :: rest))) : W p l e R s m args below meth c H locs cells slots Q (F0 m pc ls st0) := by
  intro T hT X
  obtain ⟨v, st₀, t, T', L, h0, X', hL, e1, e2, ⟨r, w1, hv, hp, hb⟩, st⟩ := hr T hT X
  cases hv
  obtain ⟨t2, a1, b1⟩ := kk r w1 T'.heap (locs ++ L) hp (by rw [e1]; exact hb.2.locs hP.2.2.2 hL) T' rfl X'
  exact ⟨t2, st t2 a1, b1⟩
/-! ends -/
theorem r_iret (M : Mx p m c cc nL s args own s0 D G) (hr : meth.sig.returnType = some .int) (hlk : meth.locks = false) (hP : Px s0 D w H locs) {post : Int32 → mm → Prop} {v : Int32} (hpost : post v w) (hdg : decode cc pc = .ok (.ireturn, 1)) (hc : cells ≤ mc) (hs : slots ≤ ms) : W p l e R s m args below meth c H locs cells slots (MQ below (Qi s0 D post) args s mc ms (Fr s0)) (F0 m pc ls [.int v]) :=
  W.widen hc hs (W.iret M.1.1 M.1.2.1 hr (fun t ht hW => ⟨v, w, rfl, hpost, State.WarmedH.trans M.2.1 hW, by rw [ht]; exact hP.nil⟩) hP.2.2.2 hdg hlk)
theorem r_zret (M : Mx p m c cc nL s args own s0 D G) (hr : meth.sig.returnType = some .boolean) (hlk : meth.locks = false) (hP : Px s0 D w H locs) {post : Int32 → mm → Prop} {v : Int32} (hn : narrow .boolean (.int v) = .int v) (hpost : post v w) (hdg : decode cc pc = .ok (.ireturn, 1)) (hc : cells ≤ mc) (hs : slots ≤ ms) : W p l e R s m args below meth c H locs cells slots (MQ below (Qi s0 D post) args s mc ms (Fr s0)) (F0 m pc ls [.int v]) :=
  W.widen hc hs (W.zret M.1.1 M.1.2.1 hr hn (fun t ht hW => ⟨v, w, rfl, hpost, State.WarmedH.trans M.2.1 hW, by rw [ht]; exact hP.nil⟩) hP.2.2.2 hdg hlk)
theorem r_lret (M : Mx p m c cc nL s args own s0 D G) (hr : meth.sig.returnType = some .long) (hlk : meth.locks = false) (hP : Px s0 D w H locs) {post : Int64 → mm → Prop} {v : Int64} (hpost : post v w) (hdg : decode cc pc = .ok (.lreturn, 1)) (hc : cells ≤ mc) (hs : slots ≤ ms) : W p l e R s m args below meth c H locs cells slots (MQ below (Ql s0 D post) args s mc ms (Fr s0)) (F0 m pc ls [.long v]) :=
  W.widen hc hs (W.lret M.1.1 M.1.2.1 hr (fun t ht hW => ⟨v, w, rfl, hpost, State.WarmedH.trans M.2.1 hW, by rw [ht]; exact hP.nil⟩) hP.2.2.2 hdg hlk)
theorem r_vret (M : Mx p m c cc nL s args own s0 D G) (hr : meth.sig.returnType = none) (hlk : meth.locks = false) (hP : Px s0 D w H locs) {post : mm → Prop} (hpost : post w) (hdg : decode cc pc = .ok (.return_, 1)) (hc : cells ≤ mc) (hs : slots ≤ ms) : W p l e R s m args below meth c H locs cells slots (MQ below (Qv s0 D post) args s mc ms (Fr s0)) (F0 m pc ls []) :=
  W.widen hc hs (W.vret M.1.1 M.1.2.1 hr (fun t ht hW => ⟨w, rfl, hpost, State.WarmedH.trans M.2.1 hW, by rw [ht]; exact hP.nil⟩) hP.2.2.2 hdg hlk)
theorem r_aret (M : Mx p m c cc nL s args own s0 D G) {rt : FieldType} (hr : meth.sig.returnType = some rt) (hrt : (∃ n, rt = .object n) ∨ ∃ t, rt = .array t) (hlk : meth.locks = false) (hP : Px s0 D w H locs) {post : Nat → mm → Prop} {v : Nat} (hpost : post v w) (hdg : decode cc pc = .ok (.areturn, 1)) (hc : cells ≤ mc) (hs : slots ≤ ms) : W p l e R s m args below meth c H locs cells slots (MQ below (Qr s0 D post) args s mc ms (Fr s0)) (F0 m pc ls [.ref v]) :=
  W.widen hc hs (W.aret M.1.1 M.1.2.1 hr hrt (Or.inr ⟨v, rfl⟩) (fun t ht hW => ⟨v, w, rfl, hpost, State.WarmedH.trans M.2.1 hW, by rw [ht]; exact hP.nil⟩) hP.2.2.2 hdg hlk)
theorem r_qret (M : Mx p m c cc nL s args own s0 D G) {rt : FieldType} (hr : meth.sig.returnType = some rt) (hrt : (∃ n, rt = .object n) ∨ ∃ t, rt = .array t) (hlk : meth.locks = false) (hP : Px s0 D w H locs) {post : Option Nat → mm → Prop} {v : Option Nat} (hpost : post v w) (hdg : decode cc pc = .ok (.areturn, 1)) (hc : cells ≤ mc) (hs : slots ≤ ms) : W p l e R s m args below meth c H locs cells slots (MQ below (Qq s0 D post) args s mc ms (Fr s0)) (F0 m pc ls [va_rf v]) :=
  W.widen hc hs (W.aret M.1.1 M.1.2.1 hr hrt (va_rf_or v) (fun t ht hW => ⟨v, w, rfl, hpost, State.WarmedH.trans M.2.1 hW, by rw [ht]; exact hP.nil⟩) hP.2.2.2 hdg hlk)
end RY
/-- how a method's contract begins -/
theorem Met.go {l : Launch} {s0 : State} {D : va_G} {G ad : Nat → Nat} (E : Bs l s0 D G ad) {y : MethodName} {cc : ByteArray} {maxL : Nat} {ret : Option FieldType} {rm : Room} {av : List Value} {w : mm} {Qc : Array Value → State → Outcome → State → Prop} (hy : plainFor y = true) (hn : (lg_sl av).length ≤ maxL)
    (body : ∀ (p : Program) (e : Env) (s : State) (m : MethodId) (below : List Frame) (meth : Method) (c : Code) (ls : Array Slot), Mx p m c cc maxL s av.toArray y.cls s0 D G → meth.sig.returnType = ret → meth.locks = false → meth.name = y.name → lv_has ls maxL (lv_args 0 av) → Px s0 D w s.heap [] →
      W p l e rm s m av.toArray below meth c s.heap [] 0 0 (MQ below Qc av.toArray s rm.cells rm.slots (Fr s0)) (F0 m 0 ls [])) : Met l y (ws_ y cc maxL ret) rm (va_Pc av (Cx s0 D w)) Qc rm.cells rm.slots (Fr s0) := by
  refine va_MetF (cc := cc) (maxL := maxL) (ret := ret) hy rfl ?_
  intro p e s m args below meth c s₁ B hml hv
  obtain ⟨rfl, hC⟩ := hv
  have hts := atoms_spec (ws := ws_ y cc maxL ret) B.pre
  have hts : ∀ w ∈ lw_all, w.before _ s = true := fun w h => hts w (List.mem_cons_of_mem _ h)
  have hl := lv_entry av (n := maxL) hn
  rw [lg_entry_eq]
  exact body p e s m below meth c _ ⟨⟨B.exec, B.bytes, hml, findClass_of_methodNamed B.named, hts⟩, hC.1, va_K.moved hC.1.alike E.K⟩ B.returns B.notSynchronized (name_of_methodNamed B.named B.method).1 hl hC.2
end
section
/-! ===== own layer: arraycopy of references, class objects, casts ===== -/
section RZ
variable {p : Program} {l : Launch} {e : Env} {R : Room} {s : State} {m : MethodId} {args : Array Value} {below : List Frame} {meth : Method} {c : Code} {H : Heap} {locs : List Loc} {cells slots : Nat} {Q : State → Prop}
variable {cc : ByteArray} {nL : Nat} {own : String} {s0 : State} {D : va_G} {G ad : Nat → Nat} {w : mm} {pc : Nat} {ls : Array Slot} {rest st0 : List Value}
theorem Px.putL {s0 : State} {D : va_G} {w : mm} {H H1 : Heap} {locs L : List Loc} (h : Px s0 D w H locs) {a t : Nat} {e e' : va_E} (ha : w a = some (t, e)) (u : Nat) (he : va_at D vwCl (a, e') H1) (hz : H1.size = H.size) (ho : ∀ q : Nat, q ≠ a → H1[q]? = H[q]?) (hL : ∀ q ∈ L, q.base = a) : Px s0 D (mset w a (u, e')) H1 (locs ++ L) := by
  have h1 := h.put (k := 0) ha u he hz ho
  refine ⟨h1.1, h1.2.1, h1.2.2.1, fun q hq => ?_⟩
  rcases List.mem_append.mp hq with g | g
  · exact h.2.2.2 q g
  · rw [hL q g]; exact (h.2.2.1 a t e ha).1
theorem r_copyq (M : Mx p m c cc nL s args own s0 D G) (hP : Px s0 D w H locs) {index : Nat} (hlink : Cond.methodLink own index arraycopyName ∈ lw_all) (hsz : ls.size = nL) {a0 a t0 t n0 n1 : Nat} {f g : Nat → Option Nat} {C : String} (ha0 : w a0 = some (t0, eO G n0 f)) (ha1 : w a = some (t, eO G n1 g))
    {sp dp n : Int32} (h1 : ¬ sp < 0) (h2 : ¬ dp < 0) (h3 : ¬ n < 0) (h4 : sp.toNatClampNeg + n.toNatClampNeg ≤ n0) (h5 : dp.toNatClampNeg + n.toNatClampNeg ≤ n1) (hel : ∀ i : Nat, i < n.toNatClampNeg → ∀ y : Nat, f (sp.toNatClampNeg + i) = some y → Rc s0 w y C) (hca : va_Nw (.castable C "java/lang/Object") s)
    (hframes : 1 ≤ R.frames) (hlocals : (rest.map fun v => v.category).sum + (nativeFrameWords "java/lang/System" "arraycopy" 5 + 11) ≤ R.locals) (hdg : decode cc pc = .ok (.invokestatic index, 3))
    (kk : ∀ (H1 : Heap) (locs1 : List Loc), Px s0 D (mset w a (t, eO G n1 (va_cpy f g sp.toNatClampNeg dp.toNatClampNeg n.toNatClampNeg))) H1 locs1 → W p l e R s m args below meth c H1 locs1 cells slots Q (F0 m (pc + 3) ls rest)) : W p l e R s m args below meth c H locs cells slots Q (F0 m pc ls (.int n :: .int dp :: .ref a :: .int sp :: .ref a0 :: rest)) := by
  have nn : ∀ z : Int32, ¬ z < 0 → z.toInt = (z.toNatClampNeg : Int) := by
    intro z hz
    have hz0 : (0 : Int) ≤ z.toInt := by
      have := Int32.not_lt.mp hz
      simpa using Int32.le_iff_toInt_le.mp this
    show z.toInt = ((z.toInt.toNat : Nat) : Int)
    omega
  intro T hT X
  have hts := M.1.2.2.2.2
  have hc0 : H[a0]? = some (vp_cell (G 3) (n0, .inr (.inr (.inr (.inr f))))) := hP.at ha0
  have hc1 : H[a]? = some (vp_cell (G 3) (n1, .inr (.inr (.inr (.inr g))))) := hP.at ha1
  obtain ⟨-, k0, hk0, cm0, hkk0⟩ := (M.2.2.2 3 _ rfl).1 n0 (fun j => va_rf (f j))
  obtain ⟨-, k1, hk1, cm1, hkk1⟩ := (M.2.2.2 3 _ rfl).1 n1 (fun j => va_rf (g j))
  obtain ⟨vm', X', step⟩ := X.arraycopy M.1.1 M.1.2.2.2.1 (hts _ hlink) (hts _ q140) (hts _ q139) (hts _ q19) (src := a0) (dst := a) (cs := vp_cell (G 3) (n0, .inr (.inr (.inr (.inr f))))) (cd := vp_cell (G 3) (n1, .inr (.inr (.inr (.inr g))))) (srcPos := sp) (destPos := dp) (n := n) (by rw [hT]; exact hc0) (by rw [hT]; exact hc1)
    (fun _ h => by cases h) (fun _ h => by cases h) (fun h => by cases h) (fun h => by cases h) hk0 hk1 hkk0 hkk1 rfl h1 h2 h3
    (by rw [nn sp h1, nn n h3]; show ¬ _ > ((arrV (G 3) n0 (fun j => va_rf (f j))).slots.size : Int); rw [arrV_size]; omega)
    (by rw [nn dp h2, nn n h3]; show ¬ _ > ((arrV (G 3) n1 (fun j => va_rf (g j))).slots.size : Int); rw [arrV_size]; omega)
    (fun vm₁ hal i hi => by
      have e : (vp_cell (G 3) (n0, .inr (.inr (.inr (.inr f))))).slots.getD (sp.toNatClampNeg + i) .null = va_rf (f (sp.toNatClampNeg + i)) := by
        show (arrV (G 3) n0 (fun j => va_rf (f j))).slots.getD _ _ = _
        rw [Array.getD_eq_getD_getElem?, arrV_read _ _ (by omega)]
        rfl
      rw [e]
      cases hy : f (sp.toNatClampNeg + i) with
      | none => exact ⟨rfl, trivial⟩
      | some y =>
        obtain ⟨cellV, g1, g2, g3⟩ := (hel i hi y hy).cell M hP
        obtain ⟨kA, comp, r1, r2, r3, -⟩ := (M.2.2.2 3 _ rfl).2
        cases hk1.symm.trans r1
        cases hkk1.symm.trans r2
        obtain ⟨kC, hkC, -⟩ := Vm.findClass_spec g3
        obtain ⟨kE, hkE, -⟩ := Vm.findClass_spec r3
        obtain ⟨kC', hkC', -⟩ := hal.2.2 _ _ hkC
        obtain ⟨kE', hkE', -⟩ := hal.2.2 _ _ hkE
        refine ⟨rfl, cellV, (show T.heap[y]? = some cellV by rw [hT]; exact g1), (fun q h => by rw [h] at g2; cases g2), ⟨kC', hkC'⟩, ?_, ?_⟩
        · exact ⟨kE', hkE'⟩
        · show vm₁.assignable _ _ = true
          rw [hal.assignable]
          exact vb_asgC hca _ _ r3 g3)
    (g := F0 m pc ls (.int n :: .int dp :: .ref a :: .int sp :: .ref a0 :: rest)) rfl (by rw [M.1.2.2.1]; exact hsz) (rest := rest) rfl (by rw [M.1.2.1]; exact hdg) hframes (by show 2 * 0 + _ + _ ≤ _; omega)
  have e1 : copied (vp_cell (G 3) (n0, .inr (.inr (.inr (.inr f))))) (vp_cell (G 3) (n1, .inr (.inr (.inr (.inr g))))) sp dp n = vp_cell (G 3) (n1, .inr (.inr (.inr (.inr (va_cpy f g sp.toNatClampNeg dp.toNatClampNeg n.toNatClampNeg))))) := by
    rw [vp_cell_q, vp_cell_q, vp_cell_q]
    exact va_copied (fun z => va_rf z) (G 3) (G 3) f g h4
  rw [e1] at X' step
  have hl : a < H.size := (Array.getElem?_eq_some_iff.mp hc1).1
  have hheap : ((T.setVm vm').setCell a (vp_cell (G 3) (n1, .inr (.inr (.inr (.inr (va_cpy f g sp.toNatClampNeg dp.toNatClampNeg n.toNatClampNeg))))))).heap = H.setIfInBounds a (vp_cell (G 3) (n1, .inr (.inr (.inr (.inr (va_cpy f g sp.toNatClampNeg dp.toNatClampNeg n.toNatClampNeg)))))) := by rw [← hT]; rfl
  have oq : ∀ q : Nat, q ≠ a → (H.setIfInBounds a (vp_cell (G 3) (n1, .inr (.inr (.inr (.inr (va_cpy f g sp.toNatClampNeg dp.toNatClampNeg n.toNatClampNeg)))))))[q]? = H[q]? := fun q hq => by simp [Array.getElem?_setIfInBounds, Ne.symm hq]
  obtain ⟨t', a1, b1⟩ := kk _ _ (hP.putL ha1 t (show (H.setIfInBounds a _)[a]? = some _ by simp [Array.getElem?_setIfInBounds, hl]) (by simp) oq (fun q hq => by
      obtain ⟨z, -, hz⟩ := List.mem_map.mp hq
      rw [← hz])) _ hheap X'
  exact ⟨t', step t' a1, b1⟩
theorem r_getC (M : Mx p m c cc nL s args own s0 D G) (E : Bs l s0 D G ad) (hP : Px s0 D w H locs) {index : Nat} (hlink : Cond.methodLink own index ⟨"java/lang/Object", "getClass", "()Ljava/lang/Class;"⟩ ∈ lw_all) (hsz : ls.size = nL) {a t n : Nat} {f : Nat → Option Nat} (ha : w a = some (t, eO G n f)) (hframes : 1 ≤ R.frames) (hlocals : (rest.map fun v => v.category).sum + 14 ≤ R.locals) (hdg : decode cc pc = .ok (.invokevirtual index, 3))
    (k : W p l e R s m args below meth c H locs cells slots Q (F0 m (pc + 3) ls (.ref (G 10) :: rest))) : W p l e R s m args below meth c H locs cells slots Q (F0 m pc ls (.ref a :: rest)) := by
  have hts := M.1.2.2.2.2
  refine va_getC (C := "[Ljava/lang/Object;") M.1.1 M.1.2.1 (by rw [M.1.2.2.1, hsz]) M.1.2.2.2.1 (hts _ hlink) (va_Dc.use (va_Dc.moved M.2.1.alike (E.nw q678 rfl))) (hts _ q677) (hts _ q112) (hts _ q128) (E.mir.moved M.2.1.alike) ⟨_, hP.at ha, rfl, ?_⟩ hframes hlocals hdg k
  exact va_nmO (M.2.2.2 3 _ rfl).2 (by decide +kernel)
theorem r_ldcM (M : Mx p m c cc nL s args own s0 D G) (E : Bs l s0 D G ad) {index : Nat} (hlink : Cond.classLink own index "[Ljava/lang/Object;" ∈ lw_all) (hdg : decode cc pc = .ok (.ldc index, 2))
    (k : W p l e R s m args below meth c H locs cells slots Q (F0 m (pc + 2) ls (.ref (G 10) :: rest))) : W p l e R s m args below meth c H locs cells slots Q (F0 m pc ls rest) :=
  va_ldcM M.1.1 M.1.2.1 M.1.2.2.2.1 (M.1.2.2.2.2 _ hlink) (E.mir.moved M.2.1.alike) hdg k
/-- a cast to the object's own class -/
theorem r_cast (M : Mx p m c cc nL s args own s0 D G) (hP : Px s0 D w H locs) {ci N index a : Nat} {C : String} {T : u_T} {ty : Nat → FieldType} (cd : Cd ci C T N ty) (hr : Rc s0 w a C) (hlink : Cond.classLink own index C ∈ lw_all) (hdg : decode cc pc = .ok (.checkcast index, 3))
    (k : W p l e R s m args below meth c H locs cells slots Q (F0 m (pc + 3) ls (.ref a :: rest))) : W p l e R s m args below meth c H locs cells slots Q (F0 m pc ls (.ref a :: rest)) :=
  va_castS M.1.1 M.1.2.1 M.1.2.2.2.1 (M.1.2.2.2.2 _ hlink) (M.2.2.1 ci _ cd.1).2 (hr.cell M hP) hdg k
end RZ
end
section
/-! ===== the JDK's small methods, by contract ===== -/
abbrev rmk (f c s k : Nat) : Room := { frames := f, cells := c, slots := s, locals := k }
/-- a contract over the map w -/
abbrev Mt (l : Launch) (y : MethodName) (cc : ByteArray) (maxL : Nat) (ret : Option FieldType) (rm : Room) (av : List Value) (s0 : State) (D : va_G) (w : mm) (Qc : Array Value → State → Outcome → State → Prop) : Prop := Met l y (ws_ y cc maxL ret) rm (va_Pc av (Cx s0 D w)) Qc rm.cells rm.slots (Fr s0)
theorem Px.re {s0 : State} {D : va_G} {w w1 : mm} {H : Heap} {locs : List Loc} (e : w1 = w) (h : Px s0 D w H locs) : Px s0 D w1 H locs := e ▸ h
theorem mset_same {w : mm} {a : Nat} {x : Nat × va_E} (h : w a = some x) : mset w a x = w := by
  funext q
  by_cases hq : q = a
  · subst hq; rw [mset_self, h]
  · rw [mset_ne _ _ hq]
theorem mset_mset {w : mm} {a : Nat} {x y : Nat × va_E} : mset (mset w a x) a y = mset w a y := by
  funext q
  by_cases hq : q = a
  · subst hq; rw [mset_self, mset_self]
  · rw [mset_ne _ _ hq, mset_ne _ _ hq, mset_ne _ _ hq]
/-- an ArrayList's fields -/
abbrev oL (mod : Int32) (e n : Nat) : va_E := .inr (4, [.int mod, .ref e, .int (nI n)])

set_option maxHeartbeats 4000000 in
set_option maxRecDepth 100000 in
/-- Math.max -/
theorem m_max {l : Launch} {s0 : State} {D : va_G} {G ad : Nat → Nat} {w : mm} (E : Bs l s0 D G ad) (x y : Int32) : Mt l yJ4_max cJ4_max 2 (some FieldType.int) (rmk 0 0 0 0) [.int x, .int y] s0 D w (Qi s0 D (fun r w1 => r = (if x < y then y else x) ∧ w1 = w)) := by
  refine Met.go E (by decide +kernel) (Nat.le_of_ble_eq_true rfl) (fun p ev s m below meth c ls M hr hlk hnm hl hP => ?_)
  have hx := M.1.1
  have hb := M.1.2.1
  have hl : lv_has ls 2 [(0, .int x), (1, .int y)] := hl
  refine lv_iload_n hx hb dJ4_max_0 rfl (lv_at hl 0 rfl) ?_
  refine lv_iload_n hx hb dJ4_max_1 rfl (lv_at hl 1 rfl) ?_
  refine lv_icmp_lt (tgt := 9) hx hb dJ4_max_2 (by decide) (fun c1 => ?_) (fun c1 => ?_)
  · refine lv_iload_n hx hb dJ4_max_9 rfl (lv_at hl 1 rfl) ?_
    exact r_iret M hr hlk hP ⟨by rw [if_pos c1], rfl⟩ dJ4_max_10 (by decide) (by decide)
  · refine lv_iload_n hx hb dJ4_max_5 rfl (lv_at hl 0 rfl) ?_
    refine lv_goto (tgt := 10) hx hb dJ4_max_6 (by decide) ?_
    exact r_iret M hr hlk hP ⟨by rw [if_neg c1], rfl⟩ dJ4_max_10 (by decide) (by decide)
set_option maxHeartbeats 4000000 in
set_option maxRecDepth 100000 in
/-- Math.min -/
theorem m_min {l : Launch} {s0 : State} {D : va_G} {G ad : Nat → Nat} {w : mm} (E : Bs l s0 D G ad) (x y : Int32) : Mt l yJ4_min cJ4_min 2 (some FieldType.int) (rmk 0 0 0 0) [.int x, .int y] s0 D w (Qi s0 D (fun r w1 => r = (if y < x then y else x) ∧ w1 = w)) := by
  refine Met.go E (by decide +kernel) (Nat.le_of_ble_eq_true rfl) (fun p ev s m below meth c ls M hr hlk hnm hl hP => ?_)
  have hx := M.1.1
  have hb := M.1.2.1
  have hl : lv_has ls 2 [(0, .int x), (1, .int y)] := hl
  refine lv_iload_n hx hb dJ4_min_0 rfl (lv_at hl 0 rfl) ?_
  refine lv_iload_n hx hb dJ4_min_1 rfl (lv_at hl 1 rfl) ?_
  refine lv_icmp_gt (tgt := 9) hx hb dJ4_min_2 (by decide) (fun c1 => ?_) (fun c1 => ?_)
  · refine lv_iload_n hx hb dJ4_min_9 rfl (lv_at hl 1 rfl) ?_
    exact r_iret M hr hlk hP ⟨by rw [if_pos c1], rfl⟩ dJ4_min_10 (by decide) (by decide)
  · refine lv_iload_n hx hb dJ4_min_5 rfl (lv_at hl 0 rfl) ?_
    refine lv_goto (tgt := 10) hx hb dJ4_min_6 (by decide) ?_
    exact r_iret M hr hlk hP ⟨by rw [if_neg c1], rfl⟩ dJ4_min_10 (by decide) (by decide)
set_option maxHeartbeats 4000000 in
set_option maxRecDepth 100000 in
/-- Preconditions.checkIndex, in range -/
theorem m_pci {l : Launch} {s0 : State} {D : va_G} {G ad : Nat → Nat} {w : mm} (E : Bs l s0 D G ad) (x y : Int32) (h0 : ¬ x < 0) (h1 : x < y) : Mt l yJ7_checkIndex cJ7_checkIndex 3 (some FieldType.int) (rmk 0 0 0 0) [.int x, .int y, .null] s0 D w (Qi s0 D (fun r w1 => r = x ∧ w1 = w)) := by
  refine Met.go E (by decide +kernel) (Nat.le_of_ble_eq_true rfl) (fun p ev s m below meth c ls M hr hlk hnm hl hP => ?_)
  have hx := M.1.1
  have hb := M.1.2.1
  have hl : lv_has ls 3 [(0, .int x), (1, .int y), (2, .null)] := hl
  refine lv_iload_n hx hb dJ7_checkIndex_0 rfl (lv_at hl 0 rfl) ?_
  refine lv_if_lt (tgt := 9) hx hb dJ7_checkIndex_1 (by decide) (fun c1 => ?_) (fun c1 => ?_)
  · exact absurd c1 h0
  · refine lv_iload_n hx hb dJ7_checkIndex_4 rfl (lv_at hl 0 rfl) ?_
    refine lv_iload_n hx hb dJ7_checkIndex_5 rfl (lv_at hl 1 rfl) ?_
    refine lv_icmp_lt (tgt := 16) hx hb dJ7_checkIndex_6 (by decide) (fun c2 => ?_) (fun c2 => ?_)
    · refine lv_iload_n hx hb dJ7_checkIndex_16 rfl (lv_at hl 0 rfl) ?_
      exact r_iret M hr hlk hP ⟨rfl, rfl⟩ dJ7_checkIndex_17 (by decide) (by decide)
    · exact absurd h1 c2
set_option maxHeartbeats 4000000 in
set_option maxRecDepth 100000 in
/-- Objects.checkIndex, in range -/
theorem m_oci {l : Launch} {s0 : State} {D : va_G} {G ad : Nat → Nat} {w : mm} (E : Bs l s0 D G ad) (x y : Int32) (h0 : ¬ x < 0) (h1 : x < y) : Mt l yJ6_checkIndex cJ6_checkIndex 2 (some FieldType.int) (rmk 1 0 0 22) [.int x, .int y] s0 D w (Qi s0 D (fun r w1 => r = x ∧ w1 = w)) := by
  refine Met.go E (by decide +kernel) (Nat.le_of_ble_eq_true rfl) (fun p ev s m below meth c ls M hr hlk hnm hl hP => ?_)
  have hx := M.1.1
  have hb := M.1.2.1
  have hl : lv_has ls 2 [(0, .int x), (1, .int y)] := hl
  refine lv_iload_n hx hb dJ6_checkIndex_0 rfl (lv_at hl 0 rfl) ?_
  refine lv_iload_n hx hb dJ6_checkIndex_1 rfl (lv_at hl 1 rfl) ?_
  refine lv_null hx hb dJ6_checkIndex_2 ?_
  refine c_i (r_runS 3 M (m_pci E x y h0 h1) hP (lw_S q196 q197 q23 q198) (by decide +kernel) rfl ⟨Nat.le_of_ble_eq_true rfl, Nat.le_of_ble_eq_true rfl⟩ hl.1 rfl (Nat.le_of_ble_eq_true rfl) dJ6_checkIndex_3 ⟨Nat.le_of_ble_eq_true rfl, Nat.le_of_ble_eq_true rfl⟩) hP (fun r w1 H locs hq hP => ?_)
  obtain ⟨er, ew⟩ := hq
  rw [ew] at hP
  rw [er]
  exact r_iret M hr hlk hP ⟨rfl, rfl⟩ dJ6_checkIndex_6 (by decide) (by decide)
set_option maxHeartbeats 4000000 in
set_option maxRecDepth 100000 in
/-- AbstractCollection() -/
theorem m_acinit {l : Launch} {s0 : State} {D : va_G} {G ad : Nat → Nat} {w : mm} (E : Bs l s0 D G ad) (a : Nat) : Mt l yJ0_init cJ0_init 1 (none) (rmk 1 0 0 12) [.ref a] s0 D w (Qv s0 D (fun w1 => w1 = w)) := by
  refine Met.go E (by decide +kernel) (Nat.le_of_ble_eq_true rfl) (fun p ev s m below meth c ls M hr hlk hnm hl hP => ?_)
  have hx := M.1.1
  have hb := M.1.2.1
  have hl : lv_has ls 1 [(0, .ref a)] := hl
  refine lv_aload_n hx hb dJ0_init_0 rfl (lv_at hl 0 rfl) ?_
  refine W.objInit hx hb M.1.2.2.2.1 (M.1.2.2.2.2 _ q62) (M.1.2.2.2.2 _ q49) (M.1.2.2.2.2 _ q50) rfl (by rw [M.1.2.2.1]; exact hl.1) rfl dJ0_init_1 (Nat.le_of_ble_eq_true rfl) (Nat.le_of_ble_eq_true rfl) ?_
  exact r_vret M hr hlk hP rfl dJ0_init_4 (by decide) (by decide)
set_option maxHeartbeats 4000000 in
set_option maxRecDepth 100000 in
/-- AbstractList() -/
theorem m_alinit0 {l : Launch} {s0 : State} {D : va_G} {G ad : Nat → Nat} {w : mm} (E : Bs l s0 D G ad) (a t : Nat) (h : w a = some (t, .inr (4, [.int 0, .null, .int 0]))) : Mt l yJ1_init cJ1_init 1 (none) (rmk 2 0 0 32) [.ref a] s0 D w (Qv s0 D (fun w1 => w1 = w)) := by
  refine Met.go E (by decide +kernel) (Nat.le_of_ble_eq_true rfl) (fun p ev s m below meth c ls M hr hlk hnm hl hP => ?_)
  have hx := M.1.1
  have hb := M.1.2.1
  have hl : lv_has ls 1 [(0, .ref a)] := hl
  refine lv_aload_n hx hb dJ1_init_0 rfl (lv_at hl 0 rfl) ?_
  refine c_v (r_runI 0 M (m_acinit E a) hP q61 q13 q59 q60 rfl (by decide +kernel) rfl ⟨Nat.le_of_ble_eq_true rfl, Nat.le_of_ble_eq_true rfl⟩ hl.1 rfl (Nat.le_of_ble_eq_true rfl) dJ1_init_1 ⟨Nat.le_of_ble_eq_true rfl, Nat.le_of_ble_eq_true rfl⟩) hP (fun w1 H locs hq hP => ?_)
  rw [hq] at hP
  refine lv_aload_n hx hb dJ1_init_4 rfl (lv_at hl 0 rfl) ?_
  refine lv_iconst (v := 0) hx hb dJ1_init_5 (by decide) ?_
  refine r_put (v := .int 0) M cdJ2 hP h 0 (by decide) q69 (fun _ h9 => h9) rfl rfl rfl (Nat.le_of_ble_eq_true rfl) dJ1_init_6 (fun H locs hP => ?_)
  obtain ⟨w2, ew2⟩ : ∃ z : mm, z = mset w a (t, .inr (4, [.int 0, .null, .int 0])) := ⟨_, rfl⟩
  have hP := Px.re ew2 hP
  exact r_vret M hr hlk hP (by rw [ew2]; exact mset_same h) dJ1_init_9 (by decide) (by decide)
set_option maxHeartbeats 4000000 in
set_option maxRecDepth 100000 in
/-- ArrayList() -/
theorem m_linit {l : Launch} {s0 : State} {D : va_G} {G ad : Nat → Nat} {w : mm} (E : Bs l s0 D G ad) (a t : Nat) (h : w a = some (t, .inr (4, [.int 0, .null, .int 0]))) : Mt l yJ2_init cJ2_init 1 (none) (rmk 3 0 0 52) [.ref a] s0 D w (Qv s0 D (fun w1 => w1 = mset w a (t, oL 0 (G 5) 0))) := by
  refine Met.go E (by decide +kernel) (Nat.le_of_ble_eq_true rfl) (fun p ev s m below meth c ls M hr hlk hnm hl hP => ?_)
  have hx := M.1.1
  have hb := M.1.2.1
  have hl : lv_has ls 1 [(0, .ref a)] := hl
  refine lv_aload_n hx hb dJ2_init_0 rfl (lv_at hl 0 rfl) ?_
  refine c_v (r_runI 0 M (m_alinit0 E a t h) hP q58 q14 q56 q57 rfl (by decide +kernel) rfl ⟨Nat.le_of_ble_eq_true rfl, Nat.le_of_ble_eq_true rfl⟩ hl.1 rfl (Nat.le_of_ble_eq_true rfl) dJ2_init_1 ⟨Nat.le_of_ble_eq_true rfl, Nat.le_of_ble_eq_true rfl⟩) hP (fun w1 H locs hq hP => ?_)
  rw [hq] at hP
  refine lv_aload_n hx hb dJ2_init_4 rfl (lv_at hl 0 rfl) ?_
  refine r_gets M hP E.emZ q63 (fun _ h9 => h9) dJ2_init_5 ?_
  refine r_put (v := .ref (G 5)) M cdJ2 hP h 1 (by decide) q65 (fun _ h9 => h9) rfl rfl rfl (Nat.le_of_ble_eq_true rfl) dJ2_init_8 (fun H locs hP => ?_)
  obtain ⟨w2, ew2⟩ : ∃ z : mm, z = mset w a (t, oL 0 (G 5) 0) := ⟨_, rfl⟩
  have hP := Px.re ew2 hP
  exact r_vret M hr hlk hP ew2 dJ2_init_11 (by decide) (by decide)
set_option maxHeartbeats 4000000 in
set_option maxRecDepth 100000 in
/-- ArrayList.size() -/
theorem m_size {l : Launch} {s0 : State} {D : va_G} {G ad : Nat → Nat} {w : mm} (E : Bs l s0 D G ad) {a t e n : Nat} {mod : Int32} (h : w a = some (t, oL mod e n)) : Mt l yJ2_size cJ2_size 1 (some FieldType.int) (rmk 0 0 0 0) [.ref a] s0 D w (Qi s0 D (fun r w1 => r = nI n ∧ w1 = w)) := by
  refine Met.go E (by decide +kernel) (Nat.le_of_ble_eq_true rfl) (fun p ev s m below meth c ls M hr hlk hnm hl hP => ?_)
  have hx := M.1.1
  have hb := M.1.2.1
  have hl : lv_has ls 1 [(0, .ref a)] := hl
  refine lv_aload_n hx hb dJ2_size_0 rfl (lv_at hl 0 rfl) ?_
  refine r_get M cdJ2 hP h 2 (by decide) q68 (fun _ h9 => h9) rfl dJ2_size_1 ?_
  exact r_iret M hr hlk hP ⟨rfl, rfl⟩ dJ2_size_4 (by decide) (by decide)
set_option maxHeartbeats 4000000 in
set_option maxRecDepth 100000 in
/-- ArrayList.isEmpty() -/
theorem m_isEmpty {l : Launch} {s0 : State} {D : va_G} {G ad : Nat → Nat} {w : mm} (E : Bs l s0 D G ad) {a t e n : Nat} {mod : Int32} (h : w a = some (t, oL mod e n)) (hn : n < 2 ^ 31) : Mt l yJ2_isEmpty cJ2_isEmpty 1 (some FieldType.boolean) (rmk 0 0 0 0) [.ref a] s0 D w (Qi s0 D (fun r w1 => r = (if n = 0 then 1 else 0) ∧ w1 = w)) := by
  refine Met.go E (by decide +kernel) (Nat.le_of_ble_eq_true rfl) (fun p ev s m below meth c ls M hr hlk hnm hl hP => ?_)
  have hx := M.1.1
  have hb := M.1.2.1
  have hl : lv_has ls 1 [(0, .ref a)] := hl
  refine lv_aload_n hx hb dJ2_isEmpty_0 rfl (lv_at hl 0 rfl) ?_
  refine r_get M cdJ2 hP h 2 (by decide) q68 (fun _ h9 => h9) rfl dJ2_isEmpty_1 ?_
  refine lv_if_ne (tgt := 11) hx hb dJ2_isEmpty_4 (by decide) (fun c1 => ?_) (fun c1 => ?_)
  · refine lv_iconst (v := 0) hx hb dJ2_isEmpty_11 (by decide) ?_
    exact r_zret M hr hlk hP rfl ⟨by rw [if_neg (fun q => c1 (by rw [q]; rfl))], rfl⟩ dJ2_isEmpty_12 (by decide) (by decide)
  · refine lv_iconst (v := 1) hx hb dJ2_isEmpty_7 (by decide) ?_
    refine lv_goto (tgt := 12) hx hb dJ2_isEmpty_8 (by decide) ?_
    exact r_zret M hr hlk hP rfl ⟨by rw [if_pos ((nI_eq hn (by decide)).mp (c1.trans nI_0.symm))], rfl⟩ dJ2_isEmpty_12 (by decide) (by decide)
set_option maxHeartbeats 4000000 in
set_option maxRecDepth 100000 in
/-- ArrayList.elementData(i) -/
theorem m_elementData {l : Launch} {s0 : State} {D : va_G} {G ad : Nat → Nat} {w : mm} (E : Bs l s0 D G ad) {a t e te n cap i y : Nat} {mod : Int32} {f : Nat → Option Nat} (h : w a = some (t, oL mod e n)) (he : w e = some (te, eO G cap f)) (hi : i < cap) (hc : cap < 2 ^ 31) (hf : f i = some y) : Mt l yJ2_elementData cJ2_elementData 2 (some (FieldType.object "java/lang/Object")) (rmk 0 0 0 0) [.ref a, .int (nI i)] s0 D w (Qr s0 D (fun r w1 => r = y ∧ w1 = w)) := by
  refine Met.go E (by decide +kernel) (Nat.le_of_ble_eq_true rfl) (fun p ev s m below meth c ls M hr hlk hnm hl hP => ?_)
  have hx := M.1.1
  have hb := M.1.2.1
  have hl : lv_has ls 2 [(0, .ref a), (1, .int (nI i))] := hl
  refine lv_aload_n hx hb dJ2_elementData_0 rfl (lv_at hl 0 rfl) ?_
  refine r_get M cdJ2 hP h 1 (by decide) q65 (fun _ h9 => h9) rfl dJ2_elementData_1 ?_
  refine lv_iload_n hx hb dJ2_elementData_4 rfl (lv_at hl 1 rfl) ?_
  refine r_aald M hP he (vp_in_nI hi hc) dJ2_elementData_5 ?_
  rw [nI_clamp (Nat.lt_trans hi hc), hf]
  exact r_aret M hr (Or.inl ⟨_, rfl⟩) hlk hP ⟨rfl, rfl⟩ dJ2_elementData_6 (by decide) (by decide)
set_option maxHeartbeats 4000000 in
set_option maxRecDepth 100000 in
/-- ArrayList.get(i) -/
theorem m_get {l : Launch} {s0 : State} {D : va_G} {G ad : Nat → Nat} {w : mm} (E : Bs l s0 D G ad) {a t e te n cap i y : Nat} {mod : Int32} {f : Nat → Option Nat} (h : w a = some (t, oL mod e n)) (he : w e = some (te, eO G cap f)) (hi : i < n) (hn : n ≤ cap) (hc : cap < 2 ^ 31) (hf : f i = some y) : Mt l yJ2_get cJ2_get 2 (some (FieldType.object "java/lang/Object")) (rmk 2 0 0 43) [.ref a, .int (nI i)] s0 D w (Qr s0 D (fun r w1 => r = y ∧ w1 = w)) := by
  refine Met.go E (by decide +kernel) (Nat.le_of_ble_eq_true rfl) (fun p ev s m below meth c ls M hr hlk hnm hl hP => ?_)
  have hx := M.1.1
  have hb := M.1.2.1
  have hl : lv_has ls 2 [(0, .ref a), (1, .int (nI i))] := hl
  refine lv_iload_n hx hb dJ2_get_0 rfl (lv_at hl 1 rfl) ?_
  refine lv_aload_n hx hb dJ2_get_1 rfl (lv_at hl 0 rfl) ?_
  refine r_get M cdJ2 hP h 2 (by decide) q68 (fun _ h9 => h9) rfl dJ2_get_2 ?_
  refine c_i (r_runS 2 M (m_oci E (nI i) (nI n) (nI_pos (by omega)) (nI_lt hi (by omega))) hP (lw_S q193 q194 q22 q195) (by decide +kernel) rfl ⟨Nat.le_of_ble_eq_true rfl, Nat.le_of_ble_eq_true rfl⟩ hl.1 rfl (Nat.le_of_ble_eq_true rfl) dJ2_get_5 ⟨Nat.le_of_ble_eq_true rfl, Nat.le_of_ble_eq_true rfl⟩) hP (fun r w1 H locs hq hP => ?_)
  obtain ⟨er, ew⟩ := hq
  rw [ew] at hP
  refine lv_pop hx hb dJ2_get_8 rfl ?_
  refine lv_aload_n hx hb dJ2_get_9 rfl (lv_at hl 0 rfl) ?_
  refine lv_iload_n hx hb dJ2_get_10 rfl (lv_at hl 1 rfl) ?_
  refine c_r (r_runV 1 M (m_elementData E h he (Nat.lt_of_lt_of_le hi hn) hc hf) hP (Rc.of cdJ2 h) (lw_V q199 q200 q201 q15 q202) (by decide +kernel) rfl ⟨Nat.le_of_ble_eq_true rfl, Nat.le_of_ble_eq_true rfl⟩ hl.1 rfl (Nat.le_of_ble_eq_true rfl) dJ2_get_11 ⟨Nat.le_of_ble_eq_true rfl, Nat.le_of_ble_eq_true rfl⟩) hP (fun r w1 H locs hq hP => ?_)
  obtain ⟨er, ew⟩ := hq
  rw [ew] at hP
  rw [er]
  exact r_aret M hr (Or.inl ⟨_, rfl⟩) hlk hP ⟨rfl, rfl⟩ dJ2_get_14 (by decide) (by decide)
end
section
/-! ===== ArrayList: growing, adding, iterating, clearing ===== -/
/-- the backing array: the empty one, or its own under the tag te -/
def LB (G : Nat → Nat) (w : mm) (e n te : Nat) (f : Nat → Option Nat) : Prop := (e = G 5 ∧ n = 0) ∨ ∃ cap : Nat, n ≤ cap ∧ cap < 2 ^ 20 ∧ w e = some (te, eO G cap f)
theorem lb_max {g q : Nat} (hg : g < 2 ^ 31) (hq : q < 2 ^ 31) : (if nI g < nI q then nI q else nI g) = nI (max g q) := by
  by_cases h : g < q
  · rw [if_pos (nI_lt h hq), Nat.max_eq_right (Nat.le_of_lt h)]
  · rw [if_neg (nI_nlt (Nat.le_of_not_lt h) hg), Nat.max_eq_left (Nat.le_of_not_lt h)]
theorem lb_min {g q : Nat} (hg : g < 2 ^ 31) (hq : q < 2 ^ 31) : (if nI q < nI g then nI q else nI g) = nI (min g q) := by
  by_cases h : q < g
  · rw [if_pos (nI_lt h hg), Nat.min_eq_right (Nat.le_of_lt h)]
  · rw [if_neg (nI_nlt (Nat.le_of_not_lt h) hq), Nat.min_eq_left (Nat.le_of_not_lt h)]
theorem lb_shr {n : Nat} (h : n < 2 ^ 31) : nI n >>> ((1 : Int32) &&& 31) = nI (n / 2) := pk_shrN (k := 1) h _ (by decide +kernel)
theorem lb_soft {n : Nat} (h : n < 2 ^ 30) : ¬ (2147483639 : Int32) < nI n := by
  have h1 : (2147483639 : Int32) = nI 2147483639 := by decide +kernel
  rw [h1]
  exact nI_nlt (by omega) (by omega)

set_option maxHeartbeats 4000000 in
set_option maxRecDepth 100000 in
/-- ArraysSupport.newLength -/
theorem m_newLength {l : Launch} {s0 : State} {D : va_G} {G ad : Nat → Nat} {w : mm} (E : Bs l s0 D G ad) (o g q : Nat) (h0 : 0 < g) (h1 : o < 2 ^ 20) (h2 : g < 2 ^ 20) (h3 : q < 2 ^ 20) : Mt l yJ3_newLength cJ3_newLength 4 (some FieldType.int) (rmk 1 0 0 21) [.int (nI o), .int (nI g), .int (nI q)] s0 D w (Qi s0 D (fun r w1 => r = nI (o + max g q) ∧ w1 = w)) := by
  refine Met.go E (by decide +kernel) (Nat.le_of_ble_eq_true rfl) (fun p ev s m below meth c ls M hr hlk hnm hl hP => ?_)
  have hx := M.1.1
  have hb := M.1.2.1
  have hl : lv_has ls 4 [(0, .int (nI o)), (1, .int (nI g)), (2, .int (nI q))] := hl
  refine lv_iload_n hx hb dJ3_newLength_0 rfl (lv_at hl 0 rfl) ?_
  refine lv_iload_n hx hb dJ3_newLength_1 rfl (lv_at hl 1 rfl) ?_
  refine lv_iload_n hx hb dJ3_newLength_2 rfl (lv_at hl 2 rfl) ?_
  refine c_i (r_runS 2 M (m_max E (nI g) (nI q)) hP (lw_S q101 q102 q17 q103) (by decide +kernel) rfl ⟨Nat.le_of_ble_eq_true rfl, Nat.le_of_ble_eq_true rfl⟩ hl.1 rfl (Nat.le_of_ble_eq_true rfl) dJ3_newLength_3 ⟨Nat.le_of_ble_eq_true rfl, Nat.le_of_ble_eq_true rfl⟩) hP (fun r w1 H locs hq hP => ?_)
  obtain ⟨er, ew⟩ := hq
  rw [ew] at hP
  rw [er]
  rw [lb_max (by omega) (by omega)]
  refine lv_iadd hx hb dJ3_newLength_6 ?_
  rw [nI_add]
  refine lv_istore_n (lv' := [(3, .int (nI (o + max g q))), (0, .int (nI o)), (1, .int (nI g)), (2, .int (nI q))]) hx hb dJ3_newLength_7 rfl hl (by decide) rfl (fun ls hl => ?_)
  refine lv_iconst (v := 0) hx hb dJ3_newLength_8 (by decide) ?_
  refine lv_iload_n hx hb dJ3_newLength_9 rfl (lv_at hl 0 rfl) ?_
  refine lv_icmp_ge (tgt := 21) hx hb dJ3_newLength_10 (by decide) (fun c1 => ?_) (fun c1 => ?_)
  · exact absurd c1 (nI_nle (by omega) (by omega))
  · refine lv_iload_n hx hb dJ3_newLength_13 rfl (lv_at hl 0 rfl) ?_
    refine lv_ldc hx hb M.1.2.2.2.1 (M.1.2.2.2.2 _ q104) dJ3_newLength_14 ?_
    refine lv_icmp_gt (tgt := 21) hx hb dJ3_newLength_16 (by decide) (fun c2 => ?_) (fun c2 => ?_)
    · exact absurd c2 (lb_soft (by omega))
    · refine lv_iload_n hx hb dJ3_newLength_19 rfl (lv_at hl 0 rfl) ?_
      exact r_iret M hr hlk hP ⟨rfl, rfl⟩ dJ3_newLength_20 (by decide) (by decide)
set_option maxHeartbeats 4000000 in
set_option maxRecDepth 100000 in
/-- Arrays.copyOf(a, n, class) -/
theorem m_copyOf2 {l : Launch} {s0 : State} {D : va_G} {G ad : Nat → Nat} {w : mm} (E : Bs l s0 D G ad) {e te cap N u : Nat} {f : Nat → Option Nat} {C : String} (he : w e = some (te, eO G cap f)) (hel : ∀ i, i < cap → ∀ y, f i = some y → Rc s0 w y C) (hC : Cond.castable C "java/lang/Object" ∈ lw_tbl) (hN : cap ≤ N) (hN2 : N ≤ 300) : Mt l yJ5_copyOf_2 cJ5_copyOf_2 4 (some (FieldType.array (FieldType.object "java/lang/Object"))) (rmk 1 1 300 40) [.ref e, .int (nI N), .ref (G 10)] s0 D w (Qr s0 D (fun r w1 => w r = none ∧ w1 = mset w r (u, eO G N (va_cpy f (fun _ => none) 0 0 cap)))) := by
  refine Met.go E (by decide +kernel) (Nat.le_of_ble_eq_true rfl) (fun p ev s m below meth c ls M hr hlk hnm hl hP => ?_)
  have hx := M.1.1
  have hb := M.1.2.1
  have hl : lv_has ls 4 [(0, .ref e), (1, .int (nI N)), (2, .ref (G 10))] := hl
  refine lv_aload_n hx hb dJ5_copyOf_2_0 rfl (lv_at hl 2 rfl) ?_
  refine r_ldcM M E q132 dJ5_copyOf_2_1 ?_
  refine lv_acmp_ne (rx := some (G 10)) (ry := some (G 10)) (tgt := 13) hx hb dJ5_copyOf_2_3 (by decide) (fun c1 => ?_) (fun c1 => ?_)
  · exact absurd rfl c1
  · refine lv_iload_n hx hb dJ5_copyOf_2_6 rfl (lv_at hl 1 rfl) ?_
    refine r_newO M hP u q134 (E.over M.2.1 q133) (nI_pos (by omega)) (nI_clamp (by omega)) (by omega) (by show _ + 1 ≤ 1; omega) (by show _ + N ≤ 300; omega) dJ5_copyOf_2_7 (fun r H nr hP => ?_)
    obtain ⟨w2, ew2⟩ : ∃ z : mm, z = mset w r (u, eO G N (fun _ => none)) := ⟨_, rfl⟩
    have hP : Px s0 D w2 H [] := by rw [ew2]; exact hP
    have he2 : w2 e = some (te, eO G cap f) := by rw [ew2, mset_ne _ _ (mm_nn he nr)]; exact he
    have hr2 : w2 r = some (u, eO G N (fun _ => none)) := by rw [ew2]; exact mset_self ..
    refine lv_goto (tgt := 24) hx hb dJ5_copyOf_2_10 (by decide) ?_
    refine lv_astore_n (lv' := [(3, .ref r), (0, .ref e), (1, .int (nI N)), (2, .ref (G 10))]) hx hb dJ5_copyOf_2_24 rfl hl (by decide) rfl (fun ls hl => ?_)
    refine lv_aload_n hx hb dJ5_copyOf_2_25 rfl (lv_at hl 1 rfl) ?_
    refine lv_iconst (v := 0) hx hb dJ5_copyOf_2_26 (by decide) ?_
    refine lv_aload_n hx hb dJ5_copyOf_2_27 rfl (lv_at hl 0 rfl) ?_
    refine lv_iconst (v := 0) hx hb dJ5_copyOf_2_28 (by decide) ?_
    refine lv_aload_n hx hb dJ5_copyOf_2_29 rfl (lv_at hl 1 rfl) ?_
    refine r_alenO M hP he2 dJ5_copyOf_2_30 ?_
    refine lv_iload_n hx hb dJ5_copyOf_2_31 rfl (lv_at hl 2 rfl) ?_
    refine c_i (r_runS 2 M (m_min E (nI cap) (nI N)) hP (lw_S q135 q136 q17 q137) (by decide +kernel) rfl ⟨Nat.le_of_ble_eq_true rfl, Nat.le_of_ble_eq_true rfl⟩ hl.1 rfl (Nat.le_of_ble_eq_true rfl) dJ5_copyOf_2_32 ⟨by show _ + 0 ≤ 1; omega, by show _ + 0 ≤ 300; omega⟩) hP (fun r9 w3 H locs hq hP => ?_)
    obtain ⟨er, ew⟩ := hq
    rw [ew] at hP
    rw [er]
    rw [lb_min (by omega) (by omega), Nat.min_eq_left hN]
    refine r_copyq (C := C) M hP q138 hl.1 he2 hr2 (by decide) (by decide) (nI_pos (by omega)) (by rw [nI_clamp (by omega), sb_cl0]; omega) (by rw [nI_clamp (by omega), sb_cl0]; omega) (fun i hi y hy => ?_) (E.cast M.2.1 hC) (by decide) (by decide +kernel) dJ5_copyOf_2_35 (fun H locs hP => ?_)
    · rw [nI_clamp (by omega)] at hi
      rw [sb_cl0, Nat.zero_add] at hy
      rcases hel i hi y hy with ⟨t9, ci, fs, T, n9, h9, hc9⟩ | h9
      · exact Or.inl ⟨t9, ci, fs, T, n9, by rw [ew2, mset_ne _ _ (mm_nn h9 nr)]; exact h9, hc9⟩
      · exact Or.inr h9
    · rw [nI_clamp (by omega), sb_cl0, ew2, mset_mset] at hP
      refine lv_aload_n hx hb dJ5_copyOf_2_38 rfl (lv_at hl 0 rfl) ?_
      exact r_aret M hr (Or.inr ⟨_, rfl⟩) hlk hP ⟨nr, rfl⟩ dJ5_copyOf_2_39 (by show _ + 0 ≤ 1; omega) (by show 0 + N + 0 ≤ 300; omega)
set_option maxHeartbeats 4000000 in
set_option maxRecDepth 100000 in
/-- Arrays.copyOf(a, n) -/
theorem m_copyOf {l : Launch} {s0 : State} {D : va_G} {G ad : Nat → Nat} {w : mm} (E : Bs l s0 D G ad) {e te cap N u : Nat} {f : Nat → Option Nat} {C : String} (he : w e = some (te, eO G cap f)) (hel : ∀ i, i < cap → ∀ y, f i = some y → Rc s0 w y C) (hC : Cond.castable C "java/lang/Object" ∈ lw_tbl) (hN : cap ≤ N) (hN2 : N ≤ 300) : Mt l yJ5_copyOf cJ5_copyOf 2 (some (FieldType.array (FieldType.object "java/lang/Object"))) (rmk 2 1 300 63) [.ref e, .int (nI N)] s0 D w (Qr s0 D (fun r w1 => w r = none ∧ w1 = mset w r (u, eO G N (va_cpy f (fun _ => none) 0 0 cap)))) := by
  refine Met.go E (by decide +kernel) (Nat.le_of_ble_eq_true rfl) (fun p ev s m below meth c ls M hr hlk hnm hl hP => ?_)
  have hx := M.1.1
  have hb := M.1.2.1
  have hl : lv_has ls 2 [(0, .ref e), (1, .int (nI N))] := hl
  refine lv_aload_n hx hb dJ5_copyOf_0 rfl (lv_at hl 0 rfl) ?_
  refine lv_iload_n hx hb dJ5_copyOf_1 rfl (lv_at hl 1 rfl) ?_
  refine lv_aload_n hx hb dJ5_copyOf_2 rfl (lv_at hl 0 rfl) ?_
  refine r_getC M E hP q111 hl.1 he (by decide) (Nat.le_of_ble_eq_true rfl) dJ5_copyOf_3 ?_
  refine c_r (r_runS 3 M (m_copyOf2 E (u := u) he hel hC hN hN2) hP (lw_S q129 q130 q18 q131) (by decide +kernel) rfl ⟨Nat.le_of_ble_eq_true rfl, Nat.le_of_ble_eq_true rfl⟩ hl.1 rfl (Nat.le_of_ble_eq_true rfl) dJ5_copyOf_6 ⟨Nat.le_of_ble_eq_true rfl, Nat.le_of_ble_eq_true rfl⟩) hP (fun r w1 H locs hq hP => ?_)
  exact r_aret M hr (Or.inr ⟨_, rfl⟩) hlk hP hq dJ5_copyOf_9 (by decide) (by decide)
end
section
/-! ===== ArrayList: grow, add ===== -/
theorem Rc.new {s0 : State} {w : mm} {x r : Nat} {C : String} {y : Nat × va_E} (h : Rc s0 w x C) (hn : w r = none) : Rc s0 (mset w r y) x C := by
  rcases h with ⟨t, ci, fs, T, N, h, hc⟩ | h
  · exact Or.inl ⟨t, ci, fs, T, N, by rw [mset_ne _ _ (mm_nn h hn)]; exact h, hc⟩
  · exact Or.inr h
theorem Rc.put {s0 : State} {w : mm} {x a t u ci : Nat} {fs fs' : List Value} {C : String} (h : Rc s0 w x C) (ha : w a = some (t, .inr (ci, fs))) : Rc s0 (mset w a (u, .inr (ci, fs'))) x C := by
  rcases h with ⟨t, ci9, fs9, T, N, h, hc⟩ | h
  · by_cases hx : x = a
    · subst hx
      rw [ha] at h
      cases h
      exact Or.inl ⟨u, ci, fs', T, N, mset_self .., hc⟩
    · exact Or.inl ⟨t, ci9, fs9, T, N, by rw [mset_ne _ _ hx]; exact h, hc⟩
  · exact Or.inr h
theorem Rc.putA {s0 : State} {w : mm} {x a t : Nat} {z : ClassId × vp_A} {y : Nat × va_E} {C : String} (h : Rc s0 w x C) (ha : w a = some (t, .inl z)) : Rc s0 (mset w a y) x C := by
  rcases h with ⟨t9, ci9, fs9, T, N, h, hc⟩ | h
  · have hx : x ≠ a := fun q => by
      subst q
      rw [ha] at h
      cases h
    exact Or.inl ⟨t9, ci9, fs9, T, N, by rw [mset_ne _ _ hx]; exact h, hc⟩
  · exact Or.inr h
/-- what growing leaves: a new backing array, larger -/
def GrP (G : Nat → Nat) (w : mm) (a t te n : Nat) (mod : Int32) (f : Nat → Option Nat) (r : Nat) (w1 : mm) : Prop := ∃ (N : Nat) (f1 : Nat → Option Nat), n < N ∧ N ≤ 300 ∧ (∀ i, i < n → f1 i = f i) ∧ w r = none ∧ w1 = mset (mset w r (te, eO G N f1)) a (t, oL mod r n)

theorem sb_cpyO {f g : Nat → Option Nat} {n j : Nat} (h : j < n) : va_cpy f g 0 0 n j = f j := by
  rw [pk_cpy_in (Nat.zero_le _) (by omega)]
  congr 1
  omega

set_option maxHeartbeats 4000000 in
set_option maxRecDepth 100000 in
/-- ArrayList.grow(n + 1), at a full list -/
theorem m_grow2 {l : Launch} {s0 : State} {D : va_G} {G ad : Nat → Nat} {w : mm} (E : Bs l s0 D G ad) {a t e te n : Nat} {mod : Int32} {f : Nat → Option Nat} {C : String} (h : w a = some (t, oL mod e n)) (hB : (e = G 5 ∧ n = 0) ∨ (0 < n ∧ w e = some (te, eO G n f))) (hel : ∀ i, i < n → ∀ y, f i = some y → Rc s0 w y C) (hC : Cond.castable C "java/lang/Object" ∈ lw_tbl) (hn : n ≤ 200) : Mt l yJ2_grow_2 cJ2_grow_2 4 (some (FieldType.array (FieldType.object "java/lang/Object"))) (rmk 3 1 300 84) [.ref a, .int (nI (n + 1))] s0 D w (Qr s0 D (GrP G w a t te n mod f)) := by
  rcases hB with ⟨rfl, rfl⟩ | ⟨hn0, he⟩
  · refine Met.go E (by decide +kernel) (Nat.le_of_ble_eq_true rfl) (fun p ev s m below meth c ls M hr hlk hnm hl hP => ?_)
    have hx := M.1.1
    have hb := M.1.2.1
    have hl : lv_has ls 4 [(0, .ref a), (1, .int (nI (0 + 1)))] := hl
    refine lv_aload_n hx hb dJ2_grow_2_0 rfl (lv_at hl 0 rfl) ?_
    refine r_get M cdJ2 hP h 1 (by decide) q65 (fun _ h9 => h9) rfl dJ2_grow_2_1 ?_
    refine r_emlen M hP E.emT dJ2_grow_2_4 ?_
    refine lv_istore_n (lv' := [(2, .int (nI 0)), (0, .ref a), (1, .int (nI (0 + 1)))]) hx hb dJ2_grow_2_5 rfl hl (by decide) rfl (fun ls hl => ?_)
    refine lv_iload_n hx hb dJ2_grow_2_6 rfl (lv_at hl 0 rfl) ?_
    refine lv_if_gt (tgt := 20) hx hb dJ2_grow_2_7 (by decide) (fun c1 => ?_) (fun c1 => ?_)
    · exact absurd c1 (by decide +kernel)
    · refine lv_aload_n hx hb dJ2_grow_2_10 rfl (lv_at hl 1 rfl) ?_
      refine r_get M cdJ2 hP h 1 (by decide) q65 (fun _ h9 => h9) rfl dJ2_grow_2_11 ?_
      refine r_gets M hP E.emZ q63 (fun _ h9 => h9) dJ2_grow_2_14 ?_
      refine lv_acmp_eq (rx := some (G 5)) (ry := some (G 5)) (tgt := 45) hx hb dJ2_grow_2_17 (by decide) (fun c2 => ?_) (fun c2 => ?_)
      · refine lv_aload_n hx hb dJ2_grow_2_45 rfl (lv_at hl 1 rfl) ?_
        refine lv_bipush (v := 10) hx hb dJ2_grow_2_46 (by decide) ?_
        refine lv_iload_n hx hb dJ2_grow_2_48 rfl (lv_at hl 2 rfl) ?_
        refine c_i (r_runS 2 M (m_max E 10 (nI (0 + 1))) hP (lw_S q141 q102 q17 q103) (by decide +kernel) rfl ⟨Nat.le_of_ble_eq_true rfl, Nat.le_of_ble_eq_true rfl⟩ hl.1 rfl (Nat.le_of_ble_eq_true rfl) dJ2_grow_2_49 ⟨Nat.le_of_ble_eq_true rfl, Nat.le_of_ble_eq_true rfl⟩) hP (fun r w1 H locs hq hP => ?_)
        obtain ⟨er, ew⟩ := hq
        rw [ew] at hP
        rw [er]
        rw [show (if (10 : Int32) < nI (0 + 1) then nI (0 + 1) else 10) = nI 10 by decide +kernel]
        refine r_newO M hP te q142 (E.over M.2.1 q133) (nI_pos (by decide)) (nI_clamp (by decide)) (by decide) (Nat.le_of_ble_eq_true rfl) (Nat.le_of_ble_eq_true rfl) dJ2_grow_2_52 (fun r H nr hP => ?_)
        obtain ⟨w2, ew2⟩ : ∃ z : mm, z = mset w r (te, eO G 10 (fun _ => none)) := ⟨_, rfl⟩
        have hP : Px s0 D w2 H locs := by rw [ew2]; exact hP
        have h2 : w2 a = some (t, oL mod (G 5) 0) := by rw [ew2, mset_ne _ _ (mm_nn h nr)]; exact h
        refine lv_dup_x1 hx hb dJ2_grow_2_55 rfl rfl ?_
        refine r_put (v := .ref r) M cdJ2 hP h2 1 (by decide) q65 (fun _ h9 => h9) rfl rfl rfl (Nat.le_of_ble_eq_true rfl) dJ2_grow_2_56 (fun H locs hP => ?_)
        obtain ⟨w3, ew3⟩ : ∃ z : mm, z = mset w2 a (t, oL mod r 0) := ⟨_, rfl⟩
        have hP := Px.re ew3 hP
        exact r_aret M hr (Or.inr ⟨_, rfl⟩) hlk hP ⟨10, fun _ => none, by decide, by decide, (fun i hi => absurd hi (Nat.not_lt_zero i)), nr, by rw [ew3, ew2]⟩ dJ2_grow_2_59 (Nat.le_of_ble_eq_true rfl) (Nat.le_of_ble_eq_true rfl)
      · exact absurd rfl c2
  · refine Met.go E (by decide +kernel) (Nat.le_of_ble_eq_true rfl) (fun p ev s m below meth c ls M hr hlk hnm hl hP => ?_)
    have hx := M.1.1
    have hb := M.1.2.1
    have hl : lv_has ls 4 [(0, .ref a), (1, .int (nI (n + 1)))] := hl
    refine lv_aload_n hx hb dJ2_grow_2_0 rfl (lv_at hl 0 rfl) ?_
    refine r_get M cdJ2 hP h 1 (by decide) q65 (fun _ h9 => h9) rfl dJ2_grow_2_1 ?_
    refine r_alenO M hP he dJ2_grow_2_4 ?_
    refine lv_istore_n (lv' := [(2, .int (nI n)), (0, .ref a), (1, .int (nI (n + 1)))]) hx hb dJ2_grow_2_5 rfl hl (by decide) rfl (fun ls hl => ?_)
    refine lv_iload_n hx hb dJ2_grow_2_6 rfl (lv_at hl 0 rfl) ?_
    refine lv_if_gt (tgt := 20) hx hb dJ2_grow_2_7 (by decide) (fun c1 => ?_) (fun c1 => ?_)
    · refine lv_iload_n hx hb dJ2_grow_2_20 rfl (lv_at hl 0 rfl) ?_
      refine lv_iload_n hx hb dJ2_grow_2_21 rfl (lv_at hl 2 rfl) ?_
      refine lv_iload_n hx hb dJ2_grow_2_22 rfl (lv_at hl 0 rfl) ?_
      refine lv_isub hx hb dJ2_grow_2_23 ?_
      rw [pk_sub (show n ≤ n + 1 by omega), Nat.add_sub_cancel_left]
      refine lv_iload_n hx hb dJ2_grow_2_24 rfl (lv_at hl 0 rfl) ?_
      refine lv_iconst (v := 1) hx hb dJ2_grow_2_25 (by decide) ?_
      refine lv_ishr hx hb dJ2_grow_2_26 ?_
      rw [lb_shr (by omega)]
      refine c_i (r_runS 3 M (m_newLength E n 1 (n / 2) (by decide) (by omega) (by decide) (by omega)) hP (lw_S q98 q99 q16 q100) (by decide +kernel) rfl ⟨Nat.le_of_ble_eq_true rfl, Nat.le_of_ble_eq_true rfl⟩ hl.1 rfl (Nat.le_of_ble_eq_true rfl) dJ2_grow_2_27 ⟨Nat.le_of_ble_eq_true rfl, Nat.le_of_ble_eq_true rfl⟩) hP (fun r w1 H locs hq hP => ?_)
      obtain ⟨er, ew⟩ := hq
      rw [ew] at hP
      rw [er]
      refine lv_istore_n (lv' := [(3, .int (nI (n + max 1 (n / 2)))), (2, .int (nI n)), (0, .ref a), (1, .int (nI (n + 1)))]) hx hb dJ2_grow_2_30 rfl hl (by decide) rfl (fun ls hl => ?_)
      refine lv_aload_n hx hb dJ2_grow_2_31 rfl (lv_at hl 2 rfl) ?_
      refine lv_aload_n hx hb dJ2_grow_2_32 rfl (lv_at hl 2 rfl) ?_
      refine r_get M cdJ2 hP h 1 (by decide) q65 (fun _ h9 => h9) rfl dJ2_grow_2_33 ?_
      refine lv_iload_n hx hb dJ2_grow_2_36 rfl (lv_at hl 0 rfl) ?_
      refine c_r (r_runS 2 M (m_copyOf E (u := te) he hel hC (Nat.le_add_right n _) (by omega)) hP (lw_S q108 q109 q18 q110) (by decide +kernel) rfl ⟨Nat.le_of_ble_eq_true rfl, Nat.le_of_ble_eq_true rfl⟩ hl.1 rfl (Nat.le_of_ble_eq_true rfl) dJ2_grow_2_37 ⟨Nat.le_of_ble_eq_true rfl, Nat.le_of_ble_eq_true rfl⟩) hP (fun r w2 H locs hq hP => ?_)
      obtain ⟨nr, ew2⟩ := hq
      have h2 : w2 a = some (t, oL mod e n) := by rw [ew2, mset_ne _ _ (mm_nn h nr)]; exact h
      refine lv_dup_x1 hx hb dJ2_grow_2_40 rfl rfl ?_
      refine r_put (v := .ref r) M cdJ2 hP h2 1 (by decide) q65 (fun _ h9 => h9) rfl rfl rfl (Nat.le_of_ble_eq_true rfl) dJ2_grow_2_41 (fun H locs hP => ?_)
      obtain ⟨w3, ew3⟩ : ∃ z : mm, z = mset w2 a (t, oL mod r n) := ⟨_, rfl⟩
      have hP := Px.re ew3 hP
      exact r_aret M hr (Or.inr ⟨_, rfl⟩) hlk hP ⟨n + max 1 (n / 2), va_cpy f (fun _ => none) 0 0 n, by omega, by omega, (fun i hi => sb_cpyO hi), nr, by rw [ew3, ew2]⟩ dJ2_grow_2_44 (Nat.le_of_ble_eq_true rfl) (Nat.le_of_ble_eq_true rfl)
    · exact absurd (by rw [← nI_0]; exact nI_lt hn0 (by omega)) c1
set_option maxHeartbeats 4000000 in
set_option maxRecDepth 100000 in
/-- ArrayList.grow(), at a full list -/
theorem m_grow {l : Launch} {s0 : State} {D : va_G} {G ad : Nat → Nat} {w : mm} (E : Bs l s0 D G ad) {a t e te n : Nat} {mod : Int32} {f : Nat → Option Nat} {C : String} (h : w a = some (t, oL mod e n)) (hB : (e = G 5 ∧ n = 0) ∨ (0 < n ∧ w e = some (te, eO G n f))) (hel : ∀ i, i < n → ∀ y, f i = some y → Rc s0 w y C) (hC : Cond.castable C "java/lang/Object" ∈ lw_tbl) (hn : n ≤ 200) : Mt l yJ2_grow cJ2_grow 1 (some (FieldType.array (FieldType.object "java/lang/Object"))) (rmk 4 1 300 107) [.ref a] s0 D w (Qr s0 D (GrP G w a t te n mod f)) := by
  refine Met.go E (by decide +kernel) (Nat.le_of_ble_eq_true rfl) (fun p ev s m below meth c ls M hr hlk hnm hl hP => ?_)
  have hx := M.1.1
  have hb := M.1.2.1
  have hl : lv_has ls 1 [(0, .ref a)] := hl
  refine lv_aload_n hx hb dJ2_grow_0 rfl (lv_at hl 0 rfl) ?_
  refine lv_aload_n hx hb dJ2_grow_1 rfl (lv_at hl 0 rfl) ?_
  refine r_get M cdJ2 hP h 2 (by decide) q68 (fun _ h9 => h9) rfl dJ2_grow_2 ?_
  refine lv_iconst (v := 1) hx hb dJ2_grow_5 (by decide) ?_
  refine lv_iadd hx hb dJ2_grow_6 ?_
  rw [nI_1]
  refine c_r (r_runV 1 M (m_grow2 E (te := te) (f := f) (C := C) h hB hel hC hn) hP (Rc.of cdJ2 h) (lw_V q94 q96 qs2 q15 q97) (by decide +kernel) rfl ⟨Nat.le_of_ble_eq_true rfl, Nat.le_of_ble_eq_true rfl⟩ hl.1 rfl (Nat.le_of_ble_eq_true rfl) dJ2_grow_7 ⟨Nat.le_of_ble_eq_true rfl, Nat.le_of_ble_eq_true rfl⟩) hP (fun r w1 H locs hq hP => ?_)
  exact r_aret M hr (Or.inr ⟨_, rfl⟩) hlk hP hq dJ2_grow_10 (Nat.le_of_ble_eq_true rfl) (Nat.le_of_ble_eq_true rfl)
/-- what adding x leaves: the list one longer, all entries of other owners kept -/
def AdP (G : Nat → Nat) (w : mm) (a t te n x : Nat) (mod : Int32) (f : Nat → Option Nat) (w1 : mm) : Prop := ∃ (e1 cap : Nat) (f1 : Nat → Option Nat), n < cap ∧ cap < 2 ^ 20 ∧ w1 a = some (t, oL mod e1 (n + 1)) ∧ w1 e1 = some (te, eO G cap f1) ∧ (∀ i, i < n → f1 i = f i) ∧ f1 n = some x ∧ Kp (fun u => u ≠ t ∧ u ≠ te) w w1

/-- the backing array: the empty one, or its own, not of length 0 -/
def LB1 (G : Nat → Nat) (w : mm) (e n te : Nat) (f : Nat → Option Nat) : Prop := (e = G 5 ∧ n = 0) ∨ ∃ cap : Nat, n ≤ cap ∧ cap < 2 ^ 20 ∧ 0 < cap ∧ w e = some (te, eO G cap f)

set_option maxHeartbeats 4000000 in
set_option maxRecDepth 100000 in
/-- ArrayList.add(x, elementData, size) -/
theorem m_add2 {l : Launch} {s0 : State} {D : va_G} {G ad : Nat → Nat} {w : mm} (E : Bs l s0 D G ad) {a t e te n x : Nat} {mod : Int32} {f : Nat → Option Nat} {C : String} (h : w a = some (t, oL mod e n)) (hB : LB1 G w e n te f) (hel : ∀ i, i < n → ∀ y, f i = some y → Rc s0 w y C) (hC : Cond.castable C "java/lang/Object" ∈ lw_tbl) (hn : n ≤ 200) (htt : t ≠ te) (hxC : Rc s0 w x C) : Mt l yJ2_add_2 cJ2_add_2 4 (none) (rmk 5 1 300 127) [.ref a, .ref x, .ref e, .int (nI n)] s0 D w (Qv s0 D (AdP G w a t te n x mod f)) := by
  refine Met.go E (by decide +kernel) (Nat.le_of_ble_eq_true rfl) (fun p ev s m below meth c ls M hr hlk hnm hl hP => ?_)
  have hx := M.1.1
  have hb := M.1.2.1
  have hl : lv_has ls 4 [(0, .ref a), (1, .ref x), (2, .ref e), (3, .int (nI n))] := hl
  refine lv_iload_n hx hb dJ2_add_2_0 rfl (lv_at hl 3 rfl) ?_
  refine lv_aload_n hx hb dJ2_add_2_1 rfl (lv_at hl 2 rfl) ?_
  rcases hB with ⟨he5, hn0⟩ | ⟨cap, hcap, hc2, hc0, he⟩
  · have hT5 : va_T (.object "java/lang/Object") e 0 (fun _ => .null) (Fr s0) s0 s0.heap := by rw [he5]; exact E.emT
    refine r_emlen M hP hT5 dJ2_add_2_2 ?_
    refine lv_icmp_ne (tgt := 11) hx hb dJ2_add_2_3 (by decide) (fun c1 => ?_) (fun c1 => ?_)
    · exact absurd (by rw [hn0]) c1
    · refine lv_aload_n hx hb dJ2_add_2_6 rfl (lv_at hl 0 rfl) ?_
      refine c_r (r_runV 0 M (m_grow E (te := te) (f := f) (C := C) h (Or.inl ⟨he5, hn0⟩) hel hC hn) hP (Rc.of cdJ2 h) (lw_V q90 q92 qs1 q15 q93) (by decide +kernel) rfl ⟨Nat.le_of_ble_eq_true rfl, Nat.le_of_ble_eq_true rfl⟩ hl.1 rfl (Nat.le_of_ble_eq_true rfl) dJ2_add_2_7 ⟨Nat.le_of_ble_eq_true rfl, Nat.le_of_ble_eq_true rfl⟩) hP (fun r w2 H locs hq hP => ?_)
      obtain ⟨N, f1, hN1, hN2, hf1, nr, ew2⟩ := hq
      refine lv_astore_n (lv' := [(2, .ref r), (0, .ref a), (1, .ref x), (3, .int (nI n))]) hx hb dJ2_add_2_10 rfl hl (by decide) rfl (fun ls hl => ?_)
      have h2 : w2 a = some (t, oL mod r n) := by rw [ew2]; exact mset_self ..
      have he2 : w2 r = some (te, eO G N f1) := by rw [ew2, mset_ne _ _ (Ne.symm (mm_nn h nr)), mset_self]
      have hx2 : Rc s0 w2 x C := by rw [ew2]; exact (hxC.new nr).put (by rw [mset_ne _ _ (mm_nn h nr)]; exact h)
      refine lv_aload_n hx hb dJ2_add_2_11 rfl (lv_at hl 0 rfl) ?_
      refine lv_iload_n hx hb dJ2_add_2_12 rfl (lv_at hl 3 rfl) ?_
      refine lv_aload_n hx hb dJ2_add_2_13 rfl (lv_at hl 2 rfl) ?_
      refine r_aast (C := C) M hP he2 hx2 (E.cast M.2.1 hC) (vp_in_nI (N := N) hN1 (by omega)) dJ2_add_2_14 (fun H locs hP => ?_)
      rw [nI_clamp (by omega)] at hP
      obtain ⟨w8, ew8⟩ : ∃ z : mm, z = mset w2 r (te, eO G N (va_up f1 n (some x))) := ⟨_, rfl⟩
      have hP : Px s0 D w8 H locs := by rw [ew8]; exact hP
      have h8 : w8 a = some (t, oL mod r n) := by rw [ew8, mset_ne _ _ (mm_ne h2 he2 htt)]; exact h2
      have he8 : w8 r = some (te, eO G N (va_up f1 n (some x))) := by rw [ew8]; exact mset_self ..
      refine lv_aload_n hx hb dJ2_add_2_15 rfl (lv_at hl 1 rfl) ?_
      refine lv_iload_n hx hb dJ2_add_2_16 rfl (lv_at hl 3 rfl) ?_
      refine lv_iconst (v := 1) hx hb dJ2_add_2_17 (by decide) ?_
      refine lv_iadd hx hb dJ2_add_2_18 ?_
      rw [nI_1]
      refine r_put (v := .int (nI (n + 1))) M cdJ2 hP h8 2 (by decide) q68 (fun _ h9 => h9) rfl rfl rfl (Nat.le_of_ble_eq_true rfl) dJ2_add_2_19 (fun H locs hP => ?_)
      obtain ⟨w9, ew9⟩ : ∃ z : mm, z = mset w8 a (t, oL mod r (n + 1)) := ⟨_, rfl⟩
      have hP := Px.re ew9 hP
      refine r_vret M hr hlk hP ⟨r, N, va_up f1 n (some x), hN1, by omega, by rw [ew9]; exact mset_self .., by rw [ew9, mset_ne _ _ (mm_ne he8 h8 (Ne.symm htt))]; exact he8, fun i hi => by rw [va_up_ne _ _ (Nat.ne_of_lt hi)]; exact hf1 i hi, va_up_self .., ?_⟩ dJ2_add_2_22 (Nat.le_of_ble_eq_true rfl) (Nat.le_of_ble_eq_true rfl)
      rw [ew9, ew8]
      exact ((show Kp (fun u => u ≠ t ∧ u ≠ te) w w2 by rw [ew2]; exact (Kp.new nr).tr (Kp.put (by rw [mset_ne _ _ (mm_nn h nr)]; exact h) (fun q => q.1 rfl)))).tr ((Kp.put he2 (fun q => q.2 rfl)).tr (Kp.put (by rw [← ew8]; exact h8) (fun q => q.1 rfl)))
  · refine r_alenO M hP he dJ2_add_2_2 ?_
    refine lv_icmp_ne (tgt := 11) hx hb dJ2_add_2_3 (by decide) (fun c1 => ?_) (fun c1 => ?_)
    · have hlt : n < cap := Nat.lt_of_le_of_ne hcap (fun q => c1 (by rw [q]))
      refine lv_aload_n hx hb dJ2_add_2_11 rfl (lv_at hl 2 rfl) ?_
      refine lv_iload_n hx hb dJ2_add_2_12 rfl (lv_at hl 3 rfl) ?_
      refine lv_aload_n hx hb dJ2_add_2_13 rfl (lv_at hl 1 rfl) ?_
      refine r_aast (C := C) M hP he hxC (E.cast M.2.1 hC) (vp_in_nI (N := cap) hlt (by omega)) dJ2_add_2_14 (fun H locs hP => ?_)
      rw [nI_clamp (by omega)] at hP
      obtain ⟨w8, ew8⟩ : ∃ z : mm, z = mset w e (te, eO G cap (va_up f n (some x))) := ⟨_, rfl⟩
      have hP : Px s0 D w8 H locs := by rw [ew8]; exact hP
      have h8 : w8 a = some (t, oL mod e n) := by rw [ew8, mset_ne _ _ (mm_ne h he htt)]; exact h
      have he8 : w8 e = some (te, eO G cap (va_up f n (some x))) := by rw [ew8]; exact mset_self ..
      refine lv_aload_n hx hb dJ2_add_2_15 rfl (lv_at hl 0 rfl) ?_
      refine lv_iload_n hx hb dJ2_add_2_16 rfl (lv_at hl 3 rfl) ?_
      refine lv_iconst (v := 1) hx hb dJ2_add_2_17 (by decide) ?_
      refine lv_iadd hx hb dJ2_add_2_18 ?_
      rw [nI_1]
      refine r_put (v := .int (nI (n + 1))) M cdJ2 hP h8 2 (by decide) q68 (fun _ h9 => h9) rfl rfl rfl (Nat.le_of_ble_eq_true rfl) dJ2_add_2_19 (fun H locs hP => ?_)
      obtain ⟨w9, ew9⟩ : ∃ z : mm, z = mset w8 a (t, oL mod e (n + 1)) := ⟨_, rfl⟩
      have hP := Px.re ew9 hP
      refine r_vret M hr hlk hP ⟨e, cap, va_up f n (some x), hlt, by omega, by rw [ew9]; exact mset_self .., by rw [ew9, mset_ne _ _ (mm_ne he8 h8 (Ne.symm htt))]; exact he8, fun i hi => by rw [va_up_ne _ _ (Nat.ne_of_lt hi)], va_up_self .., ?_⟩ dJ2_add_2_22 (Nat.le_of_ble_eq_true rfl) (Nat.le_of_ble_eq_true rfl)
      rw [ew9, ew8]
      exact (Kp.rf).tr ((Kp.put he (fun q => q.2 rfl)).tr (Kp.put (by rw [← ew8]; exact h8) (fun q => q.1 rfl)))
    · have hnc : n = cap := (nI_eq (by omega) (by omega)).mp c1
      rw [← hnc] at he
      by_cases hz : n = 0
      · exact absurd (hz ▸ hnc) (by omega)
      · refine lv_aload_n hx hb dJ2_add_2_6 rfl (lv_at hl 0 rfl) ?_
        refine c_r (r_runV 0 M (m_grow E (te := te) (f := f) (C := C) h (Or.inr ⟨Nat.pos_of_ne_zero hz, he⟩) hel hC hn) hP (Rc.of cdJ2 h) (lw_V q90 q92 qs1 q15 q93) (by decide +kernel) rfl ⟨Nat.le_of_ble_eq_true rfl, Nat.le_of_ble_eq_true rfl⟩ hl.1 rfl (Nat.le_of_ble_eq_true rfl) dJ2_add_2_7 ⟨Nat.le_of_ble_eq_true rfl, Nat.le_of_ble_eq_true rfl⟩) hP (fun r w2 H locs hq hP => ?_)
        obtain ⟨N, f1, hN1, hN2, hf1, nr, ew2⟩ := hq
        refine lv_astore_n (lv' := [(2, .ref r), (0, .ref a), (1, .ref x), (3, .int (nI n))]) hx hb dJ2_add_2_10 rfl hl (by decide) rfl (fun ls hl => ?_)
        have h2 : w2 a = some (t, oL mod r n) := by rw [ew2]; exact mset_self ..
        have he2 : w2 r = some (te, eO G N f1) := by rw [ew2, mset_ne _ _ (Ne.symm (mm_nn h nr)), mset_self]
        have hx2 : Rc s0 w2 x C := by rw [ew2]; exact (hxC.new nr).put (by rw [mset_ne _ _ (mm_nn h nr)]; exact h)
        refine lv_aload_n hx hb dJ2_add_2_11 rfl (lv_at hl 0 rfl) ?_
        refine lv_iload_n hx hb dJ2_add_2_12 rfl (lv_at hl 3 rfl) ?_
        refine lv_aload_n hx hb dJ2_add_2_13 rfl (lv_at hl 2 rfl) ?_
        refine r_aast (C := C) M hP he2 hx2 (E.cast M.2.1 hC) (vp_in_nI (N := N) hN1 (by omega)) dJ2_add_2_14 (fun H locs hP => ?_)
        rw [nI_clamp (by omega)] at hP
        obtain ⟨w8, ew8⟩ : ∃ z : mm, z = mset w2 r (te, eO G N (va_up f1 n (some x))) := ⟨_, rfl⟩
        have hP : Px s0 D w8 H locs := by rw [ew8]; exact hP
        have h8 : w8 a = some (t, oL mod r n) := by rw [ew8, mset_ne _ _ (mm_ne h2 he2 htt)]; exact h2
        have he8 : w8 r = some (te, eO G N (va_up f1 n (some x))) := by rw [ew8]; exact mset_self ..
        refine lv_aload_n hx hb dJ2_add_2_15 rfl (lv_at hl 1 rfl) ?_
        refine lv_iload_n hx hb dJ2_add_2_16 rfl (lv_at hl 3 rfl) ?_
        refine lv_iconst (v := 1) hx hb dJ2_add_2_17 (by decide) ?_
        refine lv_iadd hx hb dJ2_add_2_18 ?_
        rw [nI_1]
        refine r_put (v := .int (nI (n + 1))) M cdJ2 hP h8 2 (by decide) q68 (fun _ h9 => h9) rfl rfl rfl (Nat.le_of_ble_eq_true rfl) dJ2_add_2_19 (fun H locs hP => ?_)
        obtain ⟨w9, ew9⟩ : ∃ z : mm, z = mset w8 a (t, oL mod r (n + 1)) := ⟨_, rfl⟩
        have hP := Px.re ew9 hP
        refine r_vret M hr hlk hP ⟨r, N, va_up f1 n (some x), hN1, by omega, by rw [ew9]; exact mset_self .., by rw [ew9, mset_ne _ _ (mm_ne he8 h8 (Ne.symm htt))]; exact he8, fun i hi => by rw [va_up_ne _ _ (Nat.ne_of_lt hi)]; exact hf1 i hi, va_up_self .., ?_⟩ dJ2_add_2_22 (Nat.le_of_ble_eq_true rfl) (Nat.le_of_ble_eq_true rfl)
        rw [ew9, ew8]
        exact ((show Kp (fun u => u ≠ t ∧ u ≠ te) w w2 by rw [ew2]; exact (Kp.new nr).tr (Kp.put (by rw [mset_ne _ _ (mm_nn h nr)]; exact h) (fun q => q.1 rfl)))).tr ((Kp.put he2 (fun q => q.2 rfl)).tr (Kp.put (by rw [← ew8]; exact h8) (fun q => q.1 rfl)))

set_option maxHeartbeats 4000000 in
set_option maxRecDepth 100000 in
/-- ArrayList.add(x) -/
theorem m_add {l : Launch} {s0 : State} {D : va_G} {G ad : Nat → Nat} {w : mm} (E : Bs l s0 D G ad) {a t e te n x : Nat} {mod : Int32} {f : Nat → Option Nat} {C : String} (h : w a = some (t, oL mod e n)) (hB : LB1 G w e n te f) (hel : ∀ i, i < n → ∀ y, f i = some y → Rc s0 w y C) (hC : Cond.castable C "java/lang/Object" ∈ lw_tbl) (hn : n ≤ 200) (htt : t ≠ te) (hxC : Rc s0 w x C) : Mt l yJ2_add cJ2_add 2 (some FieldType.boolean) (rmk 6 1 300 150) [.ref a, .ref x] s0 D w (Qi s0 D (fun r w1 => r = 1 ∧ AdP G w a t te n x (mod + 1) f w1)) := by
  refine Met.go E (by decide +kernel) (Nat.le_of_ble_eq_true rfl) (fun p ev s m below meth c ls M hr hlk hnm hl hP => ?_)
  have hx := M.1.1
  have hb := M.1.2.1
  have hl : lv_has ls 2 [(0, .ref a), (1, .ref x)] := hl
  refine lv_aload_n hx hb dJ2_add_0 rfl (lv_at hl 0 rfl) ?_
  refine lv_dup hx hb dJ2_add_1 rfl ?_
  refine r_get M cdJ2 hP h 0 (by decide) q72 (u_same (M.1.2.2.2.2 _ q71)) rfl dJ2_add_2 ?_
  refine lv_iconst (v := 1) hx hb dJ2_add_5 (by decide) ?_
  refine lv_iadd hx hb dJ2_add_6 ?_
  refine r_put (v := .int (mod + 1)) M cdJ2 hP h 0 (by decide) q72 (u_same (M.1.2.2.2.2 _ q71)) rfl rfl rfl (Nat.le_of_ble_eq_true rfl) dJ2_add_7 (fun H locs hP => ?_)
  obtain ⟨w1, ew1⟩ : ∃ z : mm, z = mset w a (t, oL (mod + 1) e n) := ⟨_, rfl⟩
  have hP := Px.re ew1 hP
  have h1 : w1 a = some (t, oL (mod + 1) e n) := by rw [ew1]; exact mset_self ..
  have hb1 : LB1 G w1 e n te f := by
    rcases hB with hB | ⟨cap, g1, g2, g3, g4⟩
    · exact Or.inl hB
    · exact Or.inr ⟨cap, g1, g2, g3, by rw [ew1, mset_ne _ _ (mm_ne g4 h (Ne.symm htt))]; exact g4⟩
  refine lv_aload_n hx hb dJ2_add_10 rfl (lv_at hl 0 rfl) ?_
  refine lv_aload_n hx hb dJ2_add_11 rfl (lv_at hl 1 rfl) ?_
  refine lv_aload_n hx hb dJ2_add_12 rfl (lv_at hl 0 rfl) ?_
  refine r_get M cdJ2 hP h1 1 (by decide) q65 (fun _ h9 => h9) rfl dJ2_add_13 ?_
  refine lv_aload_n hx hb dJ2_add_16 rfl (lv_at hl 0 rfl) ?_
  refine r_get M cdJ2 hP h1 2 (by decide) q68 (fun _ h9 => h9) rfl dJ2_add_17 ?_
  refine c_v (r_runV 3 M (m_add2 E (te := te) (f := f) (C := C) h1 hb1 (fun i hi y hy => by rw [ew1]; exact (hel i hi y hy).put h) hC hn htt (by rw [ew1]; exact hxC.put h)) hP (Rc.of cdJ2 h1) (lw_V q86 q88 qs0 q15 q89) (by decide +kernel) rfl ⟨Nat.le_of_ble_eq_true rfl, Nat.le_of_ble_eq_true rfl⟩ hl.1 rfl (Nat.le_of_ble_eq_true rfl) dJ2_add_20 ⟨Nat.le_of_ble_eq_true rfl, Nat.le_of_ble_eq_true rfl⟩) hP (fun w2 H locs hq hP => ?_)
  obtain ⟨e1, cap, f1, k1, k2, k3, k4, k5, k6, k7⟩ := hq
  refine lv_iconst (v := 1) hx hb dJ2_add_23 (by decide) ?_
  exact r_zret M hr hlk hP rfl ⟨rfl, e1, cap, f1, k1, k2, k3, k4, k5, k6, (show Kp (fun u => u ≠ t ∧ u ≠ te) w w1 by rw [ew1]; exact Kp.put h (fun q => q.1 rfl)).tr k7⟩ dJ2_add_24 (Nat.le_of_ble_eq_true rfl) (Nat.le_of_ble_eq_true rfl)
end
section
/-! ===== iterators, clear, boxed longs ===== -/
/-- an iterator's fields -/
abbrev oT (cur last mod : Int32) (a : Nat) : va_E := .inr (6, [.int cur, .int last, .int mod, .ref a])
/-- y is a box that holds v -/
def BL (ad : Nat → Nat) (w : mm) (y : Nat) (v : Int64) : Prop := (∃ u : Nat, w y = some (u, .inr (5, [.long v]))) ∨ ∃ k : Nat, k < 256 ∧ y = ad k ∧ v = lcv k
theorem lc_small {v : Int64} (h1 : ¬ v < -128) (h2 : ¬ 127 < v) : ∃ k : Nat, k < 256 ∧ v.toInt32 + 128 = nI k ∧ v = lcv k := by
  have a1 : (-128 : Int) ≤ v.toInt := by
    have : ¬ v.toInt < (-128 : Int64).toInt := fun q => h1 (Int64.lt_iff_toInt_lt.mpr q)
    have e : (-128 : Int64).toInt = -128 := by decide +kernel
    rw [e] at this
    omega
  have a2 : v.toInt ≤ 127 := by
    have : ¬ (127 : Int64).toInt < v.toInt := fun q => h2 (Int64.lt_iff_toInt_lt.mpr q)
    have e : (127 : Int64).toInt = 127 := by decide +kernel
    rw [e] at this
    omega
  have a3 : v.toInt32.toInt64 = v := lg_i2l_l2i (by omega) (by omega)
  have a4 : v.toInt32.toInt = v.toInt := by
    have := congrArg Int64.toInt a3
    rw [Int32.toInt_toInt64] at this
    exact this
  have a5 : v.toInt32 + 128 = nI (v.toInt + 128).toNat := by
    apply Int32.toInt_inj.mp
    have e : (128 : Int32).toInt = 128 := by decide +kernel
    rw [nI_toInt (by omega), Jvm.Kit.i32_add (by rw [a4, e]; omega) (by rw [a4, e]; omega), a4, e]
    omega
  refine ⟨(v.toInt + 128).toNat, by omega, a5, ?_⟩
  unfold lcv
  have a6 : Int32.ofNat (v.toInt + 128).toNat - 128 = v.toInt32 := by
    rw [show Int32.ofNat (v.toInt + 128).toNat = v.toInt32 + 128 from a5.symm]
    grind
  rw [a6, a3]
theorem BL.rc {l : Launch} {s0 : State} {D : va_G} {G ad : Nat → Nat} (E : Bs l s0 D G ad) {w : mm} {y : Nat} {v : Int64} (h : BL ad w y v) : Rc s0 w y "java/lang/Long" := by
  rcases h with ⟨u, h⟩ | ⟨k, hk, rfl, -⟩
  · exact Rc.of cdJ9 h
  · exact Rc.old (E.lcO hk)

set_option maxHeartbeats 4000000 in
set_option maxRecDepth 100000 in
/-- Number() -/
theorem m_ninit {l : Launch} {s0 : State} {D : va_G} {G ad : Nat → Nat} {w : mm} (E : Bs l s0 D G ad) (a : Nat) : Mt l yJ8_init cJ8_init 1 (none) (rmk 1 0 0 12) [.ref a] s0 D w (Qv s0 D (fun w1 => w1 = w)) := by
  refine Met.go E (by decide +kernel) (Nat.le_of_ble_eq_true rfl) (fun p ev s m below meth c ls M hr hlk hnm hl hP => ?_)
  have hx := M.1.1
  have hb := M.1.2.1
  have hl : lv_has ls 1 [(0, .ref a)] := hl
  refine lv_aload_n hx hb dJ8_init_0 rfl (lv_at hl 0 rfl) ?_
  refine W.objInit hx hb M.1.2.2.2.1 (M.1.2.2.2.2 _ q222) (M.1.2.2.2.2 _ q49) (M.1.2.2.2.2 _ q50) rfl (by rw [M.1.2.2.1]; exact hl.1) rfl dJ8_init_1 (Nat.le_of_ble_eq_true rfl) (Nat.le_of_ble_eq_true rfl) ?_
  exact r_vret M hr hlk hP rfl dJ8_init_4 (Nat.le_of_ble_eq_true rfl) (Nat.le_of_ble_eq_true rfl)
set_option maxHeartbeats 4000000 in
set_option maxRecDepth 100000 in
/-- Long(v) -/
theorem m_jinit {l : Launch} {s0 : State} {D : va_G} {G ad : Nat → Nat} {w : mm} (E : Bs l s0 D G ad) {a t : Nat} {v : Int64} (h : w a = some (t, .inr (5, [.long 0]))) : Mt l yJ9_init cJ9_init 3 (none) (rmk 2 0 0 32) [.ref a, .long v] s0 D w (Qv s0 D (fun w1 => w1 = mset w a (t, .inr (5, [.long v])))) := by
  refine Met.go E (by decide +kernel) (Nat.le_of_ble_eq_true rfl) (fun p ev s m below meth c ls M hr hlk hnm hl hP => ?_)
  have hx := M.1.1
  have hb := M.1.2.1
  have hl : lv_has ls 3 [(0, .ref a), (1, .long v)] := hl
  refine lv_aload_n hx hb dJ9_init_0 rfl (lv_at hl 0 rfl) ?_
  refine c_v (r_runI 0 M (m_ninit E a) hP q221 q24 q219 q220 rfl (by decide +kernel) rfl ⟨Nat.le_of_ble_eq_true rfl, Nat.le_of_ble_eq_true rfl⟩ hl.1 rfl (Nat.le_of_ble_eq_true rfl) dJ9_init_1 ⟨Nat.le_of_ble_eq_true rfl, Nat.le_of_ble_eq_true rfl⟩) hP (fun w1 H locs hq hP => ?_)
  rw [hq] at hP
  refine lv_aload_n hx hb dJ9_init_4 rfl (lv_at hl 0 rfl) ?_
  refine lv_lload_n hx hb dJ9_init_5 rfl (lv_at hl 1 rfl) ?_
  refine r_putF (v := .long v) M cdJ9 hP h 0 (by decide) q223 (fun _ h9 => h9) rfl hnm rfl rfl rfl (Nat.le_of_ble_eq_true rfl) dJ9_init_6 (fun H locs hP => ?_)
  obtain ⟨w2, ew2⟩ : ∃ z : mm, z = mset w a (t, .inr (5, [.long v])) := ⟨_, rfl⟩
  have hP := Px.re ew2 hP
  exact r_vret M hr hlk hP ew2 dJ9_init_9 (Nat.le_of_ble_eq_true rfl) (Nat.le_of_ble_eq_true rfl)
set_option maxHeartbeats 4000000 in
set_option maxRecDepth 100000 in
/-- Long.longValue() -/
theorem m_longValue {l : Launch} {s0 : State} {D : va_G} {G ad : Nat → Nat} {w : mm} (E : Bs l s0 D G ad) {a : Nat} {v : Int64} (h : BL ad w a v) : Mt l yJ9_longValue cJ9_longValue 1 (some FieldType.long) (rmk 0 0 0 0) [.ref a] s0 D w (Ql s0 D (fun r w1 => r = v ∧ w1 = w)) := by
  refine Met.go E (by decide +kernel) (Nat.le_of_ble_eq_true rfl) (fun p ev s m below meth c ls M hr hlk hnm hl hP => ?_)
  have hx := M.1.1
  have hb := M.1.2.1
  have hl : lv_has ls 1 [(0, .ref a)] := hl
  refine lv_aload_n hx hb dJ9_longValue_0 rfl (lv_at hl 0 rfl) ?_
  rcases h with ⟨u, h⟩ | ⟨k, hk, hy, hv⟩
  · refine r_get M cdJ9 hP h 0 (by decide) q223 (fun _ h9 => h9) rfl dJ9_longValue_1 ?_
    exact r_lret M hr hlk hP ⟨rfl, rfl⟩ dJ9_longValue_4 (Nat.le_of_ble_eq_true rfl) (Nat.le_of_ble_eq_true rfl)
  · have hF : va_OF "java/lang/Long" "value" "J" (.long v) a (Fr s0) s0 s0.heap := by rw [hy, hv]; exact E.lcF hk
    refine r_getO M hP hF q223 (fun _ h9 => h9) dJ9_longValue_1 ?_
    exact r_lret M hr hlk hP ⟨rfl, rfl⟩ dJ9_longValue_4 (Nat.le_of_ble_eq_true rfl) (Nat.le_of_ble_eq_true rfl)
set_option maxHeartbeats 4000000 in
set_option maxRecDepth 100000 in
/-- Long.valueOf(v) -/
theorem m_valueOf {l : Launch} {s0 : State} {D : va_G} {G ad : Nat → Nat} {w : mm} (E : Bs l s0 D G ad) (v : Int64) (u : Nat) : Mt l yJ9_valueOf cJ9_valueOf 3 (some (FieldType.object "java/lang/Long")) (rmk 3 1 1 54) [.long v] s0 D w (Qr s0 D (fun r w1 => ((∃ k : Nat, k < 256 ∧ r = ad k ∧ v = lcv k) ∧ w1 = w) ∨ (w r = none ∧ w1 = mset w r (u, .inr (5, [.long v]))))) := by
  refine Met.go E (by decide +kernel) (Nat.le_of_ble_eq_true rfl) (fun p ev s m below meth c ls M hr hlk hnm hl hP => ?_)
  have hx := M.1.1
  have hb := M.1.2.1
  have hl : lv_has ls 3 [(0, .long v)] := hl
  refine lv_sipush (v := 128) hx hb dJ9_valueOf_0 (by decide) ?_
  refine lv_istore_n (lv' := [(2, .int 128), (0, .long v)]) hx hb dJ9_valueOf_3 rfl hl (by decide) rfl (fun ls hl => ?_)
  refine lv_lload_n hx hb dJ9_valueOf_4 rfl (lv_at hl 1 rfl) ?_
  refine lv_ldc2 hx hb M.1.2.2.2.1 (M.1.2.2.2.2 _ q210) dJ9_valueOf_5 ?_
  refine W.lcmp hx hb dJ9_valueOf_8 ?_
  refine lv_if_lt (tgt := 31) hx hb dJ9_valueOf_9 (by decide) (fun c1 => ?_) (fun c1 => ?_)
  · refine r_new M (fs := [.long 0]) u cdJ9 hP q214 q215 q25 (fun j hj => by (first | (have : j = 0 := by omega) | skip); revert j; decide) (Nat.le_of_ble_eq_true rfl) (Nat.le_of_ble_eq_true rfl) dJ9_valueOf_31 (fun r H nr hP => ?_)
    obtain ⟨w2, ew2⟩ : ∃ z : mm, z = mset w r (u, .inr (5, [.long 0])) := ⟨_, rfl⟩
    have hP := Px.re ew2 hP
    have h2 : w2 r = some (u, .inr (5, [.long 0])) := by rw [ew2]; exact mset_self ..
    refine lv_dup hx hb dJ9_valueOf_34 rfl ?_
    refine lv_lload_n hx hb dJ9_valueOf_35 rfl (lv_at hl 1 rfl) ?_
    refine c_v (r_runI 1 M (m_jinit E h2) hP q218 q25 q216 q217 rfl (by decide +kernel) rfl ⟨Nat.le_of_ble_eq_true rfl, Nat.le_of_ble_eq_true rfl⟩ hl.1 rfl (Nat.le_of_ble_eq_true rfl) dJ9_valueOf_36 ⟨Nat.le_of_ble_eq_true rfl, Nat.le_of_ble_eq_true rfl⟩) hP (fun w3 H locs hq hP => ?_)
    exact r_aret M hr (Or.inl ⟨_, rfl⟩) hlk hP (Or.inr ⟨nr, by rw [hq, ew2, mset_mset]⟩) dJ9_valueOf_39 (Nat.le_of_ble_eq_true rfl) (Nat.le_of_ble_eq_true rfl)
  · refine lv_lload_n hx hb dJ9_valueOf_12 rfl (lv_at hl 1 rfl) ?_
    refine lv_ldc2 hx hb M.1.2.2.2.1 (M.1.2.2.2.2 _ q211) dJ9_valueOf_13 ?_
    refine W.lcmp hx hb dJ9_valueOf_16 ?_
    refine lv_if_gt (tgt := 31) hx hb dJ9_valueOf_17 (by decide) (fun c2 => ?_) (fun c2 => ?_)
    · refine r_new M (fs := [.long 0]) u cdJ9 hP q214 q215 q25 (fun j hj => by (first | (have : j = 0 := by omega) | skip); revert j; decide) (Nat.le_of_ble_eq_true rfl) (Nat.le_of_ble_eq_true rfl) dJ9_valueOf_31 (fun r H nr hP => ?_)
      obtain ⟨w2, ew2⟩ : ∃ z : mm, z = mset w r (u, .inr (5, [.long 0])) := ⟨_, rfl⟩
      have hP := Px.re ew2 hP
      have h2 : w2 r = some (u, .inr (5, [.long 0])) := by rw [ew2]; exact mset_self ..
      refine lv_dup hx hb dJ9_valueOf_34 rfl ?_
      refine lv_lload_n hx hb dJ9_valueOf_35 rfl (lv_at hl 1 rfl) ?_
      refine c_v (r_runI 1 M (m_jinit E h2) hP q218 q25 q216 q217 rfl (by decide +kernel) rfl ⟨Nat.le_of_ble_eq_true rfl, Nat.le_of_ble_eq_true rfl⟩ hl.1 rfl (Nat.le_of_ble_eq_true rfl) dJ9_valueOf_36 ⟨Nat.le_of_ble_eq_true rfl, Nat.le_of_ble_eq_true rfl⟩) hP (fun w3 H locs hq hP => ?_)
      exact r_aret M hr (Or.inl ⟨_, rfl⟩) hlk hP (Or.inr ⟨nr, by rw [hq, ew2, mset_mset]⟩) dJ9_valueOf_39 (Nat.le_of_ble_eq_true rfl) (Nat.le_of_ble_eq_true rfl)
    · obtain ⟨k, hk, h1, h2⟩ := lc_small (fun q => c1 ((lg_cmp_lt v (-128)).mpr q)) (fun q => c2 ((lg_cmp_gt v 127).mpr q))
      refine r_gets M hP E.lcZ q212 (fun _ h9 => h9) dJ9_valueOf_20 ?_
      refine lv_lload_n hx hb dJ9_valueOf_23 rfl (lv_at hl 1 rfl) ?_
      refine lv_l2i hx hb dJ9_valueOf_24 rfl ?_
      refine lv_sipush (v := 128) hx hb dJ9_valueOf_25 (by decide) ?_
      refine lv_iadd hx hb dJ9_valueOf_28 ?_
      rw [h1]
      refine r_tq M hP E.lcT (vp_in_nI hk (by decide)) dJ9_valueOf_29 ?_
      rw [nI_clamp (by omega)]
      exact r_aret M hr (Or.inl ⟨_, rfl⟩) hlk hP (Or.inl ⟨⟨k, hk, rfl, h2⟩, rfl⟩) dJ9_valueOf_30 (Nat.le_of_ble_eq_true rfl) (Nat.le_of_ble_eq_true rfl)
set_option maxHeartbeats 4000000 in
set_option maxRecDepth 100000 in
/-- Itr(list) -/
theorem m_itinit {l : Launch} {s0 : State} {D : va_G} {G ad : Nat → Nat} {w : mm} (E : Bs l s0 D G ad) {q u : Nat} {a t e n : Nat} {mod : Int32} (hL : w a = some (t, oL mod e n)) (h : w q = some (u, .inr (6, [.int 0, .int 0, .int 0, .null]))) : Mt l yJ21_init cJ21_init 2 (none) (rmk 1 0 0 12) [.ref q, .ref a] s0 D w (Qv s0 D (fun w1 => w1 = mset w q (u, oT 0 (-1) mod a))) := by
  refine Met.go E (by decide +kernel) (Nat.le_of_ble_eq_true rfl) (fun p ev s m below meth c ls M hr hlk hnm hl hP => ?_)
  have hx := M.1.1
  have hb := M.1.2.1
  have hl : lv_has ls 2 [(0, .ref q), (1, .ref a)] := hl
  refine lv_aload_n hx hb dJ21_init_0 rfl (lv_at hl 0 rfl) ?_
  refine lv_aload_n hx hb dJ21_init_1 rfl (lv_at hl 1 rfl) ?_
  refine r_putF (v := .ref a) M cdJ21 hP h 3 (by decide) q487 (fun _ h9 => h9) rfl hnm rfl rfl rfl (Nat.le_of_ble_eq_true rfl) dJ21_init_2 (fun H locs hP => ?_)
  obtain ⟨w1, ew1⟩ : ∃ z : mm, z = mset w q (u, .inr (6, [.int 0, .int 0, .int 0, .ref a])) := ⟨_, rfl⟩
  have hP := Px.re ew1 hP
  have h1 : w1 q = some (u, .inr (6, [.int 0, .int 0, .int 0, .ref a])) := by rw [ew1]; exact mset_self ..
  have haq : a ≠ q := fun z => by rw [z, h] at hL; cases hL
  refine lv_aload_n hx hb dJ21_init_5 rfl (lv_at hl 0 rfl) ?_
  refine W.objInit hx hb M.1.2.2.2.1 (M.1.2.2.2.2 _ q483) (M.1.2.2.2.2 _ q49) (M.1.2.2.2.2 _ q50) rfl (by rw [M.1.2.2.1]; exact hl.1) rfl dJ21_init_6 (Nat.le_of_ble_eq_true rfl) (Nat.le_of_ble_eq_true rfl) ?_
  refine lv_aload_n hx hb dJ21_init_9 rfl (lv_at hl 0 rfl) ?_
  refine lv_iconst (v := (-1)) hx hb dJ21_init_10 (by decide) ?_
  refine r_put (v := .int (-1)) M cdJ21 hP h1 1 (by decide) q485 (fun _ h9 => h9) rfl rfl rfl (Nat.le_of_ble_eq_true rfl) dJ21_init_11 (fun H locs hP => ?_)
  obtain ⟨w2, ew2⟩ : ∃ z : mm, z = mset w1 q (u, .inr (6, [.int 0, .int (-1), .int 0, .ref a])) := ⟨_, rfl⟩
  have hP := Px.re ew2 hP
  have h2 : w2 q = some (u, .inr (6, [.int 0, .int (-1), .int 0, .ref a])) := by rw [ew2]; exact mset_self ..
  have hL2 : w2 a = some (t, oL mod e n) := by rw [ew2, mset_ne _ _ haq, ew1, mset_ne _ _ haq]; exact hL
  refine lv_aload_n hx hb dJ21_init_14 rfl (lv_at hl 0 rfl) ?_
  refine lv_aload_n hx hb dJ21_init_15 rfl (lv_at hl 0 rfl) ?_
  refine r_get M cdJ21 hP h2 3 (by decide) q487 (fun _ h9 => h9) rfl dJ21_init_16 ?_
  refine r_get M cdJ2 hP hL2 0 (by decide) q70 (u_same (M.1.2.2.2.2 _ q71)) rfl dJ21_init_19 ?_
  refine r_put (v := .int mod) M cdJ21 hP h2 2 (by decide) q486 (fun _ h9 => h9) rfl rfl rfl (Nat.le_of_ble_eq_true rfl) dJ21_init_22 (fun H locs hP => ?_)
  obtain ⟨w3, ew3⟩ : ∃ z : mm, z = mset w2 q (u, oT 0 (-1) mod a) := ⟨_, rfl⟩
  have hP := Px.re ew3 hP
  exact r_vret M hr hlk hP (by rw [ew3, ew2, ew1, mset_mset, mset_mset]) dJ21_init_25 (Nat.le_of_ble_eq_true rfl) (Nat.le_of_ble_eq_true rfl)
set_option maxHeartbeats 4000000 in
set_option maxRecDepth 100000 in
/-- ArrayList.iterator() -/
theorem m_iterator {l : Launch} {s0 : State} {D : va_G} {G ad : Nat → Nat} {w : mm} (E : Bs l s0 D G ad) (u : Nat) {a t e n : Nat} {mod : Int32} (hL : w a = some (t, oL mod e n)) : Mt l yJ2_iterator cJ2_iterator 1 (some (FieldType.object "java/util/Iterator")) (rmk 2 1 4 33) [.ref a] s0 D w (Qr s0 D (fun r w1 => w r = none ∧ w1 = mset w r (u, oT 0 (-1) mod a))) := by
  refine Met.go E (by decide +kernel) (Nat.le_of_ble_eq_true rfl) (fun p ev s m below meth c ls M hr hlk hnm hl hP => ?_)
  have hx := M.1.1
  have hb := M.1.2.1
  have hl : lv_has ls 1 [(0, .ref a)] := hl
  refine r_new M (fs := [.int 0, .int 0, .int 0, .null]) u cdJ21 hP q478 q479 q42 (fun j hj => by (first | (have : j = 0 := by omega) | skip); revert j; decide) (Nat.le_of_ble_eq_true rfl) (Nat.le_of_ble_eq_true rfl) dJ2_iterator_0 (fun r H nr hP => ?_)
  obtain ⟨w1, ew1⟩ : ∃ z : mm, z = mset w r (u, .inr (6, [.int 0, .int 0, .int 0, .null])) := ⟨_, rfl⟩
  have hP := Px.re ew1 hP
  have h1 : w1 r = some (u, .inr (6, [.int 0, .int 0, .int 0, .null])) := by rw [ew1]; exact mset_self ..
  have hL1 : w1 a = some (t, oL mod e n) := by rw [ew1, mset_ne _ _ (mm_nn hL nr)]; exact hL
  refine lv_dup hx hb dJ2_iterator_3 rfl ?_
  refine lv_aload_n hx hb dJ2_iterator_4 rfl (lv_at hl 0 rfl) ?_
  refine c_v (r_runI 1 M (m_itinit E hL1 h1) hP q482 q42 q480 q481 rfl (by decide +kernel) rfl ⟨Nat.le_of_ble_eq_true rfl, Nat.le_of_ble_eq_true rfl⟩ hl.1 rfl (Nat.le_of_ble_eq_true rfl) dJ2_iterator_5 ⟨Nat.le_of_ble_eq_true rfl, Nat.le_of_ble_eq_true rfl⟩) hP (fun w2 H locs hq hP => ?_)
  exact r_aret M hr (Or.inl ⟨_, rfl⟩) hlk hP ⟨nr, by rw [hq, ew1, mset_mset]⟩ dJ2_iterator_8 (Nat.le_of_ble_eq_true rfl) (Nat.le_of_ble_eq_true rfl)
set_option maxHeartbeats 4000000 in
set_option maxRecDepth 100000 in
/-- Itr.hasNext() -/
theorem m_hasNext {l : Launch} {s0 : State} {D : va_G} {G ad : Nat → Nat} {w : mm} (E : Bs l s0 D G ad) {q u i : Nat} {last md : Int32} {a t e n : Nat} {mod : Int32} (hL : w a = some (t, oL mod e n)) (h : w q = some (u, oT (nI i) last md a)) (hi : i < 2 ^ 31) (hn : n < 2 ^ 31) : Mt l yJ21_hasNext cJ21_hasNext 1 (some FieldType.boolean) (rmk 0 0 0 0) [.ref q] s0 D w (Qi s0 D (fun r w1 => r = (if i = n then 0 else 1) ∧ w1 = w)) := by
  refine Met.go E (by decide +kernel) (Nat.le_of_ble_eq_true rfl) (fun p ev s m below meth c ls M hr hlk hnm hl hP => ?_)
  have hx := M.1.1
  have hb := M.1.2.1
  have hl : lv_has ls 1 [(0, .ref q)] := hl
  refine lv_aload_n hx hb dJ21_hasNext_0 rfl (lv_at hl 0 rfl) ?_
  refine r_get M cdJ21 hP h 0 (by decide) q484 (fun _ h9 => h9) rfl dJ21_hasNext_1 ?_
  refine lv_aload_n hx hb dJ21_hasNext_4 rfl (lv_at hl 0 rfl) ?_
  refine r_get M cdJ21 hP h 3 (by decide) q487 (fun _ h9 => h9) rfl dJ21_hasNext_5 ?_
  refine r_getN M cdJ2 hP hL 2 (by decide) (E.fnest M.2.1 q67) (fun _ h9 => h9) rfl dJ21_hasNext_8 ?_
  refine lv_icmp_eq (tgt := 18) hx hb dJ21_hasNext_11 (by decide) (fun c1 => ?_) (fun c1 => ?_)
  · refine lv_iconst (v := 0) hx hb dJ21_hasNext_18 (by decide) ?_
    exact r_zret M hr hlk hP rfl ⟨by rw [if_pos ((nI_eq hi hn).mp c1)], rfl⟩ dJ21_hasNext_19 (Nat.le_of_ble_eq_true rfl) (Nat.le_of_ble_eq_true rfl)
  · refine lv_iconst (v := 1) hx hb dJ21_hasNext_14 (by decide) ?_
    refine lv_goto (tgt := 19) hx hb dJ21_hasNext_15 (by decide) ?_
    exact r_zret M hr hlk hP rfl ⟨by rw [if_neg (fun z => c1 (by rw [z]))], rfl⟩ dJ21_hasNext_19 (Nat.le_of_ble_eq_true rfl) (Nat.le_of_ble_eq_true rfl)
set_option maxHeartbeats 4000000 in
set_option maxRecDepth 100000 in
/-- Itr.checkForComodification() -/
theorem m_cfc {l : Launch} {s0 : State} {D : va_G} {G ad : Nat → Nat} {w : mm} (E : Bs l s0 D G ad) {q u : Nat} {cur last : Int32} {a t e n : Nat} {mod : Int32} (hL : w a = some (t, oL mod e n)) (h : w q = some (u, oT cur last mod a)) : Mt l yJ21_checkForComodification cJ21_checkForComodification 1 (none) (rmk 0 0 0 0) [.ref q] s0 D w (Qv s0 D (fun w1 => w1 = w)) := by
  refine Met.go E (by decide +kernel) (Nat.le_of_ble_eq_true rfl) (fun p ev s m below meth c ls M hr hlk hnm hl hP => ?_)
  have hx := M.1.1
  have hb := M.1.2.1
  have hl : lv_has ls 1 [(0, .ref q)] := hl
  refine lv_aload_n hx hb dJ21_checkForComodification_0 rfl (lv_at hl 0 rfl) ?_
  refine r_get M cdJ21 hP h 3 (by decide) q487 (fun _ h9 => h9) rfl dJ21_checkForComodification_1 ?_
  refine r_get M cdJ2 hP hL 0 (by decide) q70 (u_same (M.1.2.2.2.2 _ q71)) rfl dJ21_checkForComodification_4 ?_
  refine lv_aload_n hx hb dJ21_checkForComodification_7 rfl (lv_at hl 0 rfl) ?_
  refine r_get M cdJ21 hP h 2 (by decide) q486 (fun _ h9 => h9) rfl dJ21_checkForComodification_8 ?_
  refine lv_icmp_eq (tgt := 22) hx hb dJ21_checkForComodification_11 (by decide) (fun c1 => ?_) (fun c1 => ?_)
  · exact r_vret M hr hlk hP rfl dJ21_checkForComodification_22 (Nat.le_of_ble_eq_true rfl) (Nat.le_of_ble_eq_true rfl)
  · exact absurd rfl c1
set_option maxHeartbeats 4000000 in
set_option maxRecDepth 100000 in
/-- Itr.next() -/
theorem m_next {l : Launch} {s0 : State} {D : va_G} {G ad : Nat → Nat} {w : mm} (E : Bs l s0 D G ad) {q u i te cap y : Nat} {last : Int32} {f : Nat → Option Nat} {a t e n : Nat} {mod : Int32} (hL : w a = some (t, oL mod e n)) (h : w q = some (u, oT (nI i) last mod a)) (he : w e = some (te, eO G cap f)) (hi : i < n) (hn : n ≤ cap) (hc : cap < 2 ^ 20) (hf : f i = some y) : Mt l yJ21_next cJ21_next 3 (some (FieldType.object "java/lang/Object")) (rmk 1 0 0 20) [.ref q] s0 D w (Qr s0 D (fun r w1 => r = y ∧ w1 = mset w q (u, oT (nI (i + 1)) (nI i) mod a))) := by
  refine Met.go E (by decide +kernel) (Nat.le_of_ble_eq_true rfl) (fun p ev s m below meth c ls M hr hlk hnm hl hP => ?_)
  have hx := M.1.1
  have hb := M.1.2.1
  have hl : lv_has ls 3 [(0, .ref q)] := hl
  refine lv_aload_n hx hb dJ21_next_0 rfl (lv_at hl 0 rfl) ?_
  refine c_v (r_runV 0 M (m_cfc E hL h) hP (Rc.of cdJ21 h) (lw_V q516 q517 q518 q42 q519) (by decide +kernel) rfl ⟨Nat.le_of_ble_eq_true rfl, Nat.le_of_ble_eq_true rfl⟩ hl.1 rfl (Nat.le_of_ble_eq_true rfl) dJ21_next_1 ⟨Nat.le_of_ble_eq_true rfl, Nat.le_of_ble_eq_true rfl⟩) hP (fun w1 H locs hq hP => ?_)
  rw [hq] at hP
  refine lv_aload_n hx hb dJ21_next_4 rfl (lv_at hl 0 rfl) ?_
  refine r_get M cdJ21 hP h 0 (by decide) q484 (fun _ h9 => h9) rfl dJ21_next_5 ?_
  refine lv_istore_n (lv' := [(1, .int (nI i)), (0, .ref q)]) hx hb dJ21_next_8 rfl hl (by decide) rfl (fun ls hl => ?_)
  refine lv_iload_n hx hb dJ21_next_9 rfl (lv_at hl 0 rfl) ?_
  refine lv_aload_n hx hb dJ21_next_10 rfl (lv_at hl 1 rfl) ?_
  refine r_get M cdJ21 hP h 3 (by decide) q487 (fun _ h9 => h9) rfl dJ21_next_11 ?_
  refine r_getN M cdJ2 hP hL 2 (by decide) (E.fnest M.2.1 q67) (fun _ h9 => h9) rfl dJ21_next_14 ?_
  refine lv_icmp_lt (tgt := 28) hx hb dJ21_next_17 (by decide) (fun c1 => ?_) (fun c1 => ?_)
  · refine lv_aload_n hx hb dJ21_next_28 rfl (lv_at hl 1 rfl) ?_
    refine r_get M cdJ21 hP h 3 (by decide) q487 (fun _ h9 => h9) rfl dJ21_next_29 ?_
    refine r_get M cdJ2 hP hL 1 (by decide) q66 (fun _ h9 => h9) rfl dJ21_next_32 ?_
    refine lv_astore_n (lv' := [(2, .ref e), (1, .int (nI i)), (0, .ref q)]) hx hb dJ21_next_35 rfl hl (by decide) rfl (fun ls hl => ?_)
    refine lv_iload_n hx hb dJ21_next_36 rfl (lv_at hl 1 rfl) ?_
    refine lv_aload_n hx hb dJ21_next_37 rfl (lv_at hl 0 rfl) ?_
    refine r_alenO M hP he dJ21_next_38 ?_
    refine lv_icmp_lt (tgt := 50) hx hb dJ21_next_39 (by decide) (fun c2 => ?_) (fun c2 => ?_)
    · refine lv_aload_n hx hb dJ21_next_50 rfl (lv_at hl 2 rfl) ?_
      refine lv_iload_n hx hb dJ21_next_51 rfl (lv_at hl 1 rfl) ?_
      refine lv_iconst (v := 1) hx hb dJ21_next_52 (by decide) ?_
      refine lv_iadd hx hb dJ21_next_53 ?_
      rw [nI_1]
      refine r_put (v := .int (nI (i + 1))) M cdJ21 hP h 0 (by decide) q484 (fun _ h9 => h9) rfl rfl rfl (Nat.le_of_ble_eq_true rfl) dJ21_next_54 (fun H locs hP => ?_)
      obtain ⟨w2, ew2⟩ : ∃ z : mm, z = mset w q (u, oT (nI (i + 1)) last mod a) := ⟨_, rfl⟩
      have hP := Px.re ew2 hP
      have h2 : w2 q = some (u, oT (nI (i + 1)) last mod a) := by rw [ew2]; exact mset_self ..
      refine lv_aload_n hx hb dJ21_next_57 rfl (lv_at hl 0 rfl) ?_
      refine lv_aload_n hx hb dJ21_next_58 rfl (lv_at hl 2 rfl) ?_
      refine lv_iload_n hx hb dJ21_next_59 rfl (lv_at hl 1 rfl) ?_
      refine lv_dup_x1 hx hb dJ21_next_60 rfl rfl ?_
      refine r_put (v := .int (nI i)) M cdJ21 hP h2 1 (by decide) q485 (fun _ h9 => h9) rfl rfl rfl (Nat.le_of_ble_eq_true rfl) dJ21_next_61 (fun H locs hP => ?_)
      obtain ⟨w3, ew3⟩ : ∃ z : mm, z = mset w2 q (u, oT (nI (i + 1)) (nI i) mod a) := ⟨_, rfl⟩
      have hP := Px.re ew3 hP
      have heq : e ≠ q := fun z => by rw [z, h] at he; cases he
      have he3 : w3 e = some (te, eO G cap f) := by rw [ew3, mset_ne _ _ heq, ew2, mset_ne _ _ heq]; exact he
      refine r_aald M hP he3 (vp_in_nI (by omega) (by omega)) dJ21_next_64 ?_
      rw [nI_clamp (by omega), hf]
      exact r_aret M hr (Or.inl ⟨_, rfl⟩) hlk hP ⟨rfl, by rw [ew3, ew2, mset_mset]⟩ dJ21_next_65 (Nat.le_of_ble_eq_true rfl) (Nat.le_of_ble_eq_true rfl)
    · exact absurd (nI_lt (by omega) (by omega)) c2
  · exact absurd (nI_lt hi (by omega)) c1
set_option maxHeartbeats 4000000 in
set_option maxRecDepth 100000 in
/-- ArrayList.clear() -/
theorem m_clear {l : Launch} {s0 : State} {D : va_G} {G ad : Nat → Nat} {w : mm} (E : Bs l s0 D G ad) {a t e te n : Nat} {mod : Int32} {f : Nat → Option Nat} (h : w a = some (t, oL mod e n)) (hB : LB1 G w e n te f) (htt : t ≠ te) : Mt l yJ2_clear cJ2_clear 4 (none) (rmk 0 0 0 0) [.ref a] s0 D w (Qv s0 D (fun w1 => ∃ f1, w1 a = some (t, oL (mod + 1) e 0) ∧ LB1 G w1 e 0 te f1 ∧ Kp (fun u => u ≠ t ∧ u ≠ te) w w1)) := by
  refine Met.go E (by decide +kernel) (Nat.le_of_ble_eq_true rfl) (fun p ev s m below meth c ls M hr hlk hnm hl hP => ?_)
  have hx := M.1.1
  have hb := M.1.2.1
  have hl : lv_has ls 4 [(0, .ref a)] := hl
  refine lv_aload_n hx hb dJ2_clear_0 rfl (lv_at hl 0 rfl) ?_
  refine lv_dup hx hb dJ2_clear_1 rfl ?_
  refine r_get M cdJ2 hP h 0 (by decide) q72 (u_same (M.1.2.2.2.2 _ q71)) rfl dJ2_clear_2 ?_
  refine lv_iconst (v := 1) hx hb dJ2_clear_5 (by decide) ?_
  refine lv_iadd hx hb dJ2_clear_6 ?_
  refine r_put (v := .int (mod + 1)) M cdJ2 hP h 0 (by decide) q72 (u_same (M.1.2.2.2.2 _ q71)) rfl rfl rfl (Nat.le_of_ble_eq_true rfl) dJ2_clear_7 (fun H locs hP => ?_)
  obtain ⟨w1, ew1⟩ : ∃ z : mm, z = mset w a (t, oL (mod + 1) e n) := ⟨_, rfl⟩
  have hP := Px.re ew1 hP
  have h1 : w1 a = some (t, oL (mod + 1) e n) := by rw [ew1]; exact mset_self ..
  refine lv_aload_n hx hb dJ2_clear_10 rfl (lv_at hl 0 rfl) ?_
  refine r_get M cdJ2 hP h1 1 (by decide) q65 (fun _ h9 => h9) rfl dJ2_clear_11 ?_
  refine lv_astore_n (lv' := [(1, .ref e), (0, .ref a)]) hx hb dJ2_clear_14 rfl hl (by decide) rfl (fun ls hl => ?_)
  refine lv_aload_n hx hb dJ2_clear_15 rfl (lv_at hl 1 rfl) ?_
  refine r_get M cdJ2 hP h1 2 (by decide) q68 (fun _ h9 => h9) rfl dJ2_clear_16 ?_
  refine lv_istore_n (lv' := [(2, .int (nI n)), (1, .ref e), (0, .ref a)]) hx hb dJ2_clear_19 rfl hl (by decide) rfl (fun ls hl => ?_)
  refine lv_aload_n hx hb dJ2_clear_20 rfl (lv_at hl 2 rfl) ?_
  refine lv_iconst (v := 0) hx hb dJ2_clear_21 (by decide) ?_
  refine lv_dup_x1 hx hb dJ2_clear_22 rfl rfl ?_
  refine r_put (v := .int 0) M cdJ2 hP h1 2 (by decide) q68 (fun _ h9 => h9) rfl rfl rfl (Nat.le_of_ble_eq_true rfl) dJ2_clear_23 (fun H locs hP => ?_)
  obtain ⟨w2, ew2⟩ : ∃ z : mm, z = mset w1 a (t, oL (mod + 1) e 0) := ⟨_, rfl⟩
  have hP := Px.re ew2 hP
  have h2 : w2 a = some (t, oL (mod + 1) e 0) := by rw [ew2]; exact mset_self ..
  have hk2 : Kp (fun u => u ≠ t ∧ u ≠ te) w w2 := by rw [ew2, ew1, mset_mset]; exact Kp.put h (fun q => q.1 rfl)
  refine lv_istore_n (lv' := [(3, .int 0), (2, .int (nI n)), (1, .ref e), (0, .ref a)]) hx hb dJ2_clear_26 rfl hl (by decide) rfl (fun ls hl => ?_)
  rcases hB with ⟨he5, hn0⟩ | ⟨cap, g1, g2, g3, he⟩
  · refine lv_iload_n hx hb dJ2_clear_27 rfl (lv_at hl 0 rfl) ?_
    refine lv_iload_n hx hb dJ2_clear_28 rfl (lv_at hl 1 rfl) ?_
    refine lv_icmp_ge (tgt := 42) hx hb dJ2_clear_29 (by decide) (fun c1 => ?_) (fun c1 => ?_)
    · exact r_vret M hr hlk hP ⟨f, h2, Or.inl ⟨he5, rfl⟩, hk2⟩ dJ2_clear_42 (Nat.le_of_ble_eq_true rfl) (Nat.le_of_ble_eq_true rfl)
    · exact absurd (by rw [hn0]; decide +kernel) c1
  · have he2 : w2 e = some (te, eO G cap f) := by rw [ew2, ew1, mset_mset, mset_ne _ _ (mm_ne he h (Ne.symm htt))]; exact he
    have loop : ∀ (k i : Nat) (w' : mm) (f' : Nat → Option Nat) (H : Heap) (locs : List Loc) (ls : Array Slot), i + k = n → w' a = some (t, oL (mod + 1) e 0) → w' e = some (te, eO G cap f') → Kp (fun u => u ≠ t ∧ u ≠ te) w w' → Px s0 D w' H locs → lv_has ls 4 [(3, .int (nI i)), (2, .int (nI n)), (1, .ref e), (0, .ref a)] → W p l ev (rmk 0 0 0 0) s m #[Value.ref a] below meth c H locs 0 0 (MQ below (Qv s0 D (fun w1 => ∃ f1, w1 a = some (t, oL (mod + 1) e 0) ∧ LB1 G w1 e 0 te f1 ∧ Kp (fun u => u ≠ t ∧ u ≠ te) w w1)) #[Value.ref a] s 0 0 (Fr s0)) (F0 m 27 ls []) := by
      intro k
      induction k with
      | zero =>
        intro i w' f' H locs ls hik hA hE hk hP hl
        refine lv_iload_n hx hb dJ2_clear_27 rfl (lv_at hl 0 rfl) ?_
        refine lv_iload_n hx hb dJ2_clear_28 rfl (lv_at hl 1 rfl) ?_
        refine lv_icmp_ge (tgt := 42) hx hb dJ2_clear_29 (by decide) (fun c1 => ?_) (fun c1 => ?_)
        · exact r_vret M hr hlk hP ⟨f', hA, Or.inr ⟨cap, Nat.zero_le _, g2, g3, hE⟩, hk⟩ dJ2_clear_42 (Nat.le_of_ble_eq_true rfl) (Nat.le_of_ble_eq_true rfl)
        · exact absurd (nI_le (by omega) (by omega)) c1
      | succ k ih =>
        intro i w' f' H locs ls hik hA hE hk hP hl
        refine lv_iload_n hx hb dJ2_clear_27 rfl (lv_at hl 0 rfl) ?_
        refine lv_iload_n hx hb dJ2_clear_28 rfl (lv_at hl 1 rfl) ?_
        refine lv_icmp_ge (tgt := 42) hx hb dJ2_clear_29 (by decide) (fun c1 => ?_) (fun c1 => ?_)
        · exact absurd c1 (nI_ge (by omega) (by omega))
        · refine lv_aload_n hx hb dJ2_clear_32 rfl (lv_at hl 2 rfl) ?_
          refine lv_iload_n hx hb dJ2_clear_33 rfl (lv_at hl 0 rfl) ?_
          refine lv_null hx hb dJ2_clear_34 ?_
          refine r_aastN M hP hE (vp_in_nI (by omega) (by omega)) dJ2_clear_35 (fun H locs hP => ?_)
          refine lv_iinc (v := (nI (i + 1))) (lv' := [(3, .int (nI (i + 1))), (2, .int (nI n)), (1, .ref e), (0, .ref a)]) hx hb dJ2_clear_36 hl (k := 0) rfl (nI_1 i) (by decide) rfl (fun ls hl => ?_)
          refine lv_goto (tgt := 27) hx hb dJ2_clear_39 (by decide) ?_
          exact ih (i + 1) _ _ H locs ls (by omega) (by rw [mset_ne _ _ (mm_ne hA hE htt)]; exact hA) (mset_self ..) (hk.tr (Kp.put hE (fun q => q.2 rfl))) hP hl
    exact loop n 0 w2 f H locs ls (by omega) h2 he2 hk2 hP hl
end
section
/-! ===== exceptions: the words at a method's own state; what is thrown ===== -/
def okWord : Cond → Bool
  | .castable _ _ => true
  | .declares _ => true
  | .laysStatic _ _ _ => true
  | w => goodWord w
def isIsRef : Cond → Bool
  | .isRef _ => true
  | _ => false
theorem x_lays {s0 s : State} {args args' : Array Value} (hW : s0.WarmedH s.vm) (hq : ∀ q : Nat, q < s0.heap.size → s.heap[q]? = s0.heap[q]?) {C n d : String} (h : (Cond.laysStatic C n d).before args s0 = true) : (Cond.laysStatic C n d).before args' s = true := by
  obtain ⟨c, k, i, f, a, cell, h1, h2, h3, h4, h5, h6, h7, h8, h9⟩ := Cond.laysStatic_spec h
  obtain ⟨k', hi', he⟩ := State.fieldFound?_setVm hW.alike h2
  have hi' : s.fieldFound? C n d = some (c, k', i, f) := hi'
  have e1 : s.vm.findClass C = some c := by rw [hW.alike.findClass]; exact h1
  have e2 : s.heap[a]? = some cell := by rw [hq a (Array.getElem?_eq_some_iff.mp h5).1]; exact h5
  have e3 : k'.statics = some a := by rw [he]; exact h4
  have e4 : k'.staticTypes[f.slot]? = some f.type := by rw [he]; exact h9
  simp [Cond.before, Cond.holds, Cond.value, e1, hi', e3, e2, h3, h6, h7, h8, e4]
theorem x_isRef {s0 s : State} {args args' : Array Value} (hW : s0.WarmedH s.vm) (hq : ∀ q : Nat, q < s0.heap.size → s.heap[q]? = s0.heap[q]?) {C n d : String} (hl : (Cond.laysStatic C n d).before args s0 = true) (h : (Cond.isRef (.static C n d)).before args s0 = true) : (Cond.isRef (.static C n d)).before args' s = true := by
  obtain ⟨c, k, i, f, a, cell, h1, h2, h3, h4, h5, h6, h7, h8, h9⟩ := Cond.laysStatic_spec hl
  obtain ⟨k', hi', he⟩ := State.fieldFound?_setVm hW.alike h2
  have hi' : s.fieldFound? C n d = some (c, k', i, f) := hi'
  have e2 : s.heap[a]? = some cell := by rw [hq a (Array.getElem?_eq_some_iff.mp h5).1]; exact h5
  have e3 : k'.statics = some a := by rw [he]; exact h4
  have ev0 : (Term.static C n d).eval args s0 none [] s0 = cell.slots[f.slot]? := by simp [Term.eval, State.fieldNamed?, h2, h3, h4, h5, h6]
  have ev1 : (Term.static C n d).eval args' s none [] s = cell.slots[f.slot]? := by simp [Term.eval, State.fieldNamed?, hi', h3, e3, e2, h6]
  simp only [Cond.before, Cond.holds, Cond.value] at h ⊢
  rw [ev0] at h
  rw [ev1]
  exact h
section XW
variable {l : Launch} {s0 s : State} {D : va_G} {G ad : Nat → Nat}
theorem x_word (E : Bs l s0 D G ad) (hW : s0.WarmedH s.vm) (hq : ∀ q : Nat, q < s0.heap.size → s.heap[q]? = s0.heap[q]?) {w : Cond} (h : w ∈ lw_tbl) (hk : okWord w = true) {args : Array Value} : w.before args s = true := by
  obtain ⟨b, hb, -⟩ := E.2.1
  have h0 := hb w h
  unfold okWord at hk
  split at hk
  · exact va_Nw.use rfl (E.cast hW h)
  · exact va_Nw.use rfl (va_Nw.warmD hW (E.nw h rfl))
  · exact x_lays hW hq h0
  · exact word_at hW (good_of_word hk) h0
theorem x_un (E : Bs l s0 D G ad) (hW : s0.WarmedH s.vm) (hq : ∀ q : Nat, q < s0.heap.size → s.heap[q]? = s0.heap[q]?) {args : Array Value} : (Cond.isRef (.static "java/lang/Throwable" "UNASSIGNED_STACK" "[Ljava/lang/StackTraceElement;")).before args s = true := by
  obtain ⟨b, hb, hn⟩ := E.2.1
  exact x_isRef hW hq (hb _ q310) (flat_of_before _ hn _ (by decide +kernel))
theorem x_su (E : Bs l s0 D G ad) (hW : s0.WarmedH s.vm) (hq : ∀ q : Nat, q < s0.heap.size → s.heap[q]? = s0.heap[q]?) {args : Array Value} : (Cond.isRef (.static "java/lang/Throwable" "SUPPRESSED_SENTINEL" "Ljava/util/List;")).before args s = true := by
  obtain ⟨b, hb, hn⟩ := E.2.1
  exact x_isRef hW hq (hb _ q312) (flat_of_before _ hn _ (by decide +kernel))
end XW
/-- a list of atoms that hold at every method's state -/
def XA (ws : List Cond) : Prop := ∀ w ∈ ws, (w ∈ lw_tbl ∧ okWord w = true) ∨ w = Cond.isRef (.static "java/lang/Throwable" "UNASSIGNED_STACK" "[Ljava/lang/StackTraceElement;") ∨ w = Cond.isRef (.static "java/lang/Throwable" "SUPPRESSED_SENTINEL" "Ljava/util/List;")
theorem XA.of {ws : List Cond} (ps : List Nat) (h1 : ws.filter (fun w => !isIsRef w) = ps.filterMap (fun i => lw_tbl[i]?)) (h2 : ws.filter isIsRef = [Cond.isRef (.static "java/lang/Throwable" "UNASSIGNED_STACK" "[Ljava/lang/StackTraceElement;"), Cond.isRef (.static "java/lang/Throwable" "SUPPRESSED_SENTINEL" "Ljava/util/List;")]) (h3 : (ws.filter (fun w => !isIsRef w)).all okWord = true) : XA ws := by
  intro w hw
  cases hr : isIsRef w with
  | true =>
    have : w ∈ ws.filter isIsRef := List.mem_filter.mpr ⟨hw, hr⟩
    rw [h2] at this
    simp only [List.mem_cons, List.not_mem_nil, or_false] at this
    exact Or.inr this
  | false =>
    have hm : w ∈ ws.filter (fun w => !isIsRef w) := List.mem_filter.mpr ⟨hw, by rw [hr]; rfl⟩
    refine Or.inl ⟨?_, List.all_eq_true.mp h3 w hm⟩
    rw [h1] at hm
    obtain ⟨i, -, hi⟩ := List.mem_filterMap.mp hm
    exact List.mem_of_getElem? hi
theorem XA.use {ws : List Cond} (h : XA ws) {l : Launch} {s0 s : State} {D : va_G} {G ad : Nat → Nat} (E : Bs l s0 D G ad) (hW : s0.WarmedH s.vm) (hq : ∀ q : Nat, q < s0.heap.size → s.heap[q]? = s0.heap[q]?) {args : Array Value} : ∀ w ∈ ws, w.before args s = true := by
  intro w hw
  rcases h w hw with ⟨h1, h2⟩ | rfl | rfl
  · exact x_word E hW hq h1 h2
  · exact x_un E hW hq
  · exact x_su E hW hq
/-- what a class of exceptions with a plain constructor asks (the link of the call apart) -/
def exAtoms (X : String) (names : List String) : List Cond :=
  Bundle.throwableAtoms ++ Bundle.chain0Atoms X names ++
  [.instantiable X 6, .castable X X, .selects X Bundle.tFill0 Bundle.tFill0, .selects X Bundle.tFill Bundle.tFill,
   .lays X Bundle.tN "cause" "Ljava/lang/Throwable;", .lays X Bundle.tN "stackTrace" Bundle.steD, .lays X Bundle.tN "suppressedExceptions" Bundle.listD, .lays X Bundle.tN "detailMessage" "Ljava/lang/String;",
   .isRef (.static Bundle.tN "UNASSIGNED_STACK" Bundle.steD), .isRef (.static Bundle.tN "SUPPRESSED_SENTINEL" Bundle.listD),
   .fieldLink Bundle.tN 198 Bundle.tN "backtrace" "Ljava/lang/Object;", .lays Bundle.tN Bundle.tN "backtrace" "Ljava/lang/Object;", .lays X Bundle.tN "backtrace" "Ljava/lang/Object;"]
set_option maxRecDepth 100000

theorem a_ari : XA (Bundle.messageArmAtoms "java/lang/ArithmeticException" ["java/lang/RuntimeException", "java/lang/Exception"]) := XA.of [30, 360, 314, 322, 325, 327, 361, 362, 49, 50, 308, 313, 323, 330, 354, 331, 355, 332, 356, 309, 310, 311, 312, 357, 306, 307, 329, 357, 297, 298, 299, 300, 348, 300, 301, 302, 303, 350, 303, 304, 305, 306, 352, 34, 363, 364, 365, 367, 366, 368, 33, 296, 346, 353, 317, 337, 339, 343, 335, 328, 358, 333] (by decide +kernel) (by decide +kernel) (by decide +kernel)
theorem a_idx : XA (Bundle.messageArmAtoms "java/lang/ArrayIndexOutOfBoundsException" ["java/lang/IndexOutOfBoundsException", "java/lang/RuntimeException", "java/lang/Exception"]) := XA.of [30, 360, 314, 322, 325, 327, 361, 362, 49, 50, 308, 313, 323, 330, 354, 331, 355, 332, 356, 309, 310, 311, 312, 357, 306, 307, 329, 357, 371, 372, 373, 374, 386, 374, 375, 376, 300, 348, 300, 301, 302, 303, 350, 303, 304, 305, 306, 352, 34, 363, 364, 365, 367, 366, 368, 36, 370, 384, 387, 318, 379, 380, 382, 378, 328, 358, 377] (by decide +kernel) (by decide +kernel) (by decide +kernel)
theorem a_neg : XA (Bundle.messageArmAtoms "java/lang/NegativeArraySizeException" ["java/lang/RuntimeException", "java/lang/Exception"]) := XA.of [30, 360, 314, 322, 325, 327, 361, 362, 49, 50, 308, 313, 323, 330, 354, 331, 355, 332, 356, 309, 310, 311, 312, 357, 306, 307, 329, 357, 390, 391, 392, 300, 348, 300, 301, 302, 303, 350, 303, 304, 305, 306, 352, 34, 363, 364, 365, 367, 366, 368, 37, 389, 400, 401, 320, 395, 396, 398, 394, 328, 358, 393] (by decide +kernel) (by decide +kernel) (by decide +kernel)
theorem a_iae : XA (Bundle.ownAtoms0 "MainframeDesk$Part" 20 "java/lang/IllegalArgumentException" ["java/lang/RuntimeException", "java/lang/Exception"]) := XA.of [30, 360, 314, 322, 325, 327, 361, 362, 49, 50, 308, 313, 323, 330, 354, 331, 355, 332, 356, 309, 310, 311, 312, 357, 454, 455, 456, 435, 347, 435, 436, 437, 438, 349, 438, 439, 440, 361, 351, 453, 445, 446, 447, 319, 448, 449, 450, 451, 328, 358, 452] (by decide +kernel) (by decide +kernel) (by decide +kernel)
theorem a_uoe : XA (Bundle.ownAtoms0 "MainframeDesk$Part" 23 "java/lang/UnsupportedOperationException" ["java/lang/RuntimeException", "java/lang/Exception"]) := XA.of [30, 360, 314, 322, 325, 327, 361, 362, 49, 50, 308, 313, 323, 330, 354, 331, 355, 332, 356, 309, 310, 311, 312, 357, 469, 470, 471, 435, 347, 435, 436, 437, 438, 349, 438, 439, 440, 361, 351, 468, 460, 461, 462, 321, 463, 464, 465, 466, 328, 358, 467] (by decide +kernel) (by decide +kernel) (by decide +kernel)
theorem a_stk : XA (exAtoms "MainframeDesk$Part$Stuck" ["java/lang/IllegalStateException", "java/lang/RuntimeException", "java/lang/Exception"]) := XA.of [30, 360, 314, 322, 325, 327, 361, 362, 49, 50, 308, 313, 323, 330, 354, 331, 355, 332, 356, 309, 310, 311, 312, 357, 429, 430, 431, 432, 420, 432, 433, 434, 435, 347, 435, 436, 437, 438, 349, 438, 439, 440, 361, 351, 418, 419, 422, 316, 423, 424, 425, 426, 328, 358, 427] (by decide +kernel) (by decide +kernel) (by decide +kernel)
end
section
/-! ===== methods that throw, by contract ===== -/
/-- what is known when x of the class cls has been thrown out of a method that began at st -/
def TQ (s0 : State) (D : va_G) (w : mm) (cls : String) (st : State) (mc ms x : Nat) (t : State) : Prop :=
  (∃ cell : Cell, t.heap[x]? = some cell ∧ cell.vm = .none ∧ s0.vm.findClass cls = some cell.cls) ∧ Cx s0 D w t ∧ st.WarmedH t.vm ∧ ∃ L : List Loc, st.sameButNew ({ t with vm := st.vm } : State) L mc ms ∧ ∀ q ∈ L, Fr s0 q.base
def MQT (below : List Frame) (s0 : State) (D : va_G) (w : mm) (cls : String) (st : State) (mc ms : Nat) : State → Prop := fun t => ∃ x : Nat, t.status = .running ∧ Ended t below (.threw x) ∧ TQ s0 D w cls st mc ms x t
def MetT (l : Launch) (y : MethodName) (cc : ByteArray) (maxL : Nat) (ret : Option FieldType) (rm : Room) (av : List Value) (s0 : State) (D : va_G) (w : mm) (cls : String) : Prop :=
  MetFree l y (headSpec (ws_ y cc maxL ret) rm) (va_Pc av (Cx s0 D w)) (fun _ _ _ _ _ => True) (fun _ st o t => ∃ x : Nat, o = .threw x ∧ TQ s0 D w cls st rm.cells rm.slots x t)
theorem MetT.go {l : Launch} {s0 : State} {D : va_G} {G ad : Nat → Nat} (E : Bs l s0 D G ad) {y : MethodName} {cc : ByteArray} {maxL : Nat} {ret : Option FieldType} {rm : Room} {av : List Value} {w : mm} {cls : String} (hy : plainFor y = true) (hn : (lg_sl av).length ≤ maxL)
    (body : ∀ (p : Program) (e : Env) (s : State) (m : MethodId) (below : List Frame) (meth : Method) (c : Code) (ls : Array Slot), Mx p m c cc maxL s av.toArray y.cls s0 D G → meth.locks = false → (∀ pc : Nat, ∀ x ∈ c.exceptionTable.toList, covers x pc = false) → lv_has ls maxL (lv_args 0 av) → Px s0 D w s.heap [] →
      W p l e rm s m av.toArray below meth c s.heap [] 0 0 (MQT below s0 D w cls s rm.cells rm.slots) (F0 m 0 ls [])) : MetT l y cc maxL ret rm av s0 D w cls := by
  refine MetFree.of_bodySF (code := cc) (maxLocals := maxL) (ret := ret) hy ?_ ?_
  · intro args s m h hn
    obtain ⟨meth, c, h1, h2, h3, h4, h5, h6, -, -⟩ := Cond.code_spec hn (atoms_spec (ws := ws_ y cc maxL ret) h _ List.mem_cons_self)
    exact ⟨meth, c, h1, h2, h3, h4, h5, h6⟩
  · intro p e s m args below meth c s₁ B hml hP _
    obtain ⟨rfl, hC⟩ := hP
    have hh0 : s₁.heap = s.heap := by rw [B.state]; rfl
    have hts := atoms_spec (ws := ws_ y cc maxL ret) B.pre
    have hcode := hts _ List.mem_cons_self
    have hts : ∀ w ∈ lw_all, w.before _ s = true := fun w h => hts w (List.mem_cons_of_mem _ h)
    have hl := lv_entry av (n := maxL) hn
    obtain ⟨t, a1, x, b1, b2, b3⟩ := body p e s m below meth c _ ⟨⟨B.exec, B.bytes, hml, findClass_of_methodNamed B.named, hts⟩, hC.1, va_K.moved hC.1.alike E.K⟩ B.notSynchronized (fun pc => covers_of_empty (B.noHandlers hcode) pc) hl hC.2 s₁ hh0 (Stand.of_body B)
    rw [← lg_entry_eq] at a1
    exact ⟨t, .threw x, a1, b1, b2, x, rfl, b3⟩
/-- where nothing was written the old cells stand -/
theorem same_heap {s t : State} {k n : Nat} (h : s.sameButNew ({ t with vm := s.vm } : State) [] k n) : s.heap.size ≤ t.heap.size ∧ ∀ q : Nat, q < s.heap.size → t.heap[q]? = s.heap[q]? := by
  refine ⟨h.2.1, fun q hq => ?_⟩
  have hc : s.heap[q]? = some s.heap[q] := Array.getElem?_eq_getElem hq
  rw [hc]
  exact kept_of_same (keep := fun _ => True) h (fun _ hq => by cases hq) q _ trivial hc
section TX
variable {p : Program} {l : Launch} {e : Env} {R : Room} {s : State} {m : MethodId} {args : Array Value} {below : List Frame} {meth : Method} {c : Code} {H : Heap} {locs : List Loc} {cells slots : Nat} {Q : State → Prop}
variable {cc : ByteArray} {nL : Nat} {own : String} {s0 : State} {D : va_G} {G ad : Nat → Nat} {w : mm} {pc : Nat} {ls : Array Slot} {rest st0 : List Value}
/-- the end of a method that has thrown, nothing old written -/
theorem TQ.of (M : Mx p m c cc nL s args own s0 D G) (hP0 : Px s0 D w s.heap []) {cls : String} {x k n mc ms : Nat} {t : State} (hc : ∃ cell : Cell, t.heap[x]? = some cell ∧ cell.vm = .none ∧ s.vm.findClass cls = some cell.cls) (hW : s.WarmedH t.vm) (hs : s.sameButNew ({ t with vm := s.vm } : State) [] k n) (hk : k ≤ mc) (hn : n ≤ ms) : TQ s0 D w cls s mc ms x t := by
  obtain ⟨cell, h1, h2, h3⟩ := hc
  obtain ⟨g1, g2⟩ := same_heap hs
  exact ⟨⟨cell, h1, h2, by rw [← M.2.1.alike.findClass]; exact h3⟩, ⟨State.WarmedH.trans M.2.1 hW, hP0.grow g1 g2⟩, hW, [], hs.mono hk hn, fun _ hq => by cases hq⟩
/-- the machine itself throws, with a message -/
theorem t_msg (E : Bs l s0 D G ad) (M : Mx p m c cc nL s args own s0 D G) (hlk : meth.locks = false) (hout : ∀ pc : Nat, ∀ x ∈ c.exceptionTable.toList, covers x pc = false) (hP0 : Px s0 D w s.heap []) (hsz : ls.size = nL) {cls text : String} {names : List String} {mc ms : Nat}
    (hstep : ∀ T : State, T.heap = H → Stand p l e R s m args below meth c T [] cells slots → ∀ target, Steps p.tables e below ((T.setTop (F0 m pc ls rest)).pushFrame (.throwNew cls (some text) none)) target → Steps p.tables e below (T.setTop (F0 m pc ls st0)) target)
    (hat : XA (Bundle.messageArmAtoms cls names)) (hcls : Bundle.fit cls = true) (hnames : ∀ n ∈ names, Bundle.fit n = true) (hsoe : (cls == "java/lang/StackOverflowError") = false) (hoom : (cls == "java/lang/OutOfMemoryError") = false)
    (htext : (text == notModelled) = false) (hbytes : (stringBytes (stringToUtf16 text)).size ≤ 212) (hRf : names.length + 4 < R.frames) (hRl : (rest.map fun v => v.category).sum + 10240 ≤ R.locals) (hshort : 13 * names.length + 55 ≤ 10240) (hRc : cells + 3 ≤ R.cells) (hRs : slots + 222 ≤ R.slots) (hmc : cells + 3 ≤ mc) (hms : slots + 222 ≤ ms) :
    W p l e R s m args below meth c H [] cells slots (MQT below s0 D w cls s mc ms) (F0 m pc ls st0) := by
  intro T hT X
  have htr : e.platform.stackTraces = false := Launch.traces_off E.1 X.admits
  have hq0 := hP0.2.1
  obtain ⟨U, h1, h2, h3, h4, ⟨n, hn, h5⟩, cb, cs, ce, -, -, hce, -, -, KE⟩ := X.messageArmCells M.1.1 htr (cls := cls) (names := names) (text := text) hcls hnames hsoe hoom (hat.use E M.2.1 hq0) (fun x hx => by cases hx) htext
    (by rw [Launch.admits_arrayLengthLimit X.admits]; omega) (by rw [Launch.admits_maxHeapBytes X.admits]; simp only [componentBytes]; omega)
    (g := F0 m pc ls rest) rfl (by rw [M.1.2.2.1]; exact hsz) rfl rfl (hout _) hRf (by show 2 * 0 + (rest.map fun v => v.category).sum + 10240 ≤ _; omega) hshort hRc (by omega)
  exact ⟨U, hstep T hT X U h1, _, h2, h3, TQ.of M hP0 ⟨ce, hce, KE.vm, KE.cls⟩ h4 h5 hmc (by omega)⟩
/-- new X(); throw: X's constructor and those above it are plain -/
theorem t_new0 (E : Bs l s0 D G ad) (M : Mx p m c cc nL s args own s0 D G) (hlk : meth.locks = false) (hout : ∀ pc : Nat, ∀ x ∈ c.exceptionTable.toList, covers x pc = false) (hP0 : Px s0 D w s.heap []) (hsz : ls.size = nL) {cls : String} {names : List String} {mc ms ic ix : Nat}
    (hat : XA (Bundle.ownAtoms0 own ic cls names)) (hcls : Bundle.fit cls = true) (hnames : ∀ n ∈ names, Bundle.fit n = true) (hcl : Cond.classLink own ix cls ∈ lw_all) (hinst : Cond.instantiable cls 6 ∈ lw_all) (hini : Cond.initialized cls ∈ lw_all)
    (hd0 : decode cc pc = .ok (.new ix, 3)) (hd3 : decode cc (pc + 3) = .ok (.dup, 1)) (hd4 : decode cc (pc + 4) = .ok (.invokespecial ic, 3)) (hd7 : decode cc (pc + 7) = .ok (.athrow, 1))
    (hRf : names.length + 3 < R.frames) (hRl : 1 + (rest.map fun v => v.category).sum + (13 * (names.length + 1) + 41) ≤ R.locals) (hRc : cells + 1 ≤ R.cells) (hRs : slots + 6 ≤ R.slots) (hmc : cells + 1 ≤ mc) (hms : slots + 6 ≤ ms) :
    W p l e R s m args below meth c H [] cells slots (MQT below s0 D w cls s mc ms) (F0 m pc ls rest) := by
  have key : s.heap.size ≤ H.size → W p l e R s m args below meth c H [] cells slots (MQT below s0 D w cls s mc ms) (F0 m pc ls rest) := by
    intro hH
    have hts := M.1.2.2.2.2
    obtain ⟨cX, kX, hfc, hkX, -, -, -, -⟩ := Cond.instantiable_spec (hts _ hinst)
    refine W.newcK M.1.1 M.1.2.1 M.1.2.2.2.1 (hts _ hcl) (hts _ hinst) (hts _ hini) rfl hd0 hRc hRs hfc rfl fun H1 kC hkC e1 z1 o1 => ?_
    refine lv_dup M.1.1 M.1.2.1 hd3 rfl ?_
    intro T hT X
    have htr : e.platform.stackTraces = false := Launch.traces_off E.1 X.admits
    obtain ⟨U, h1, h2, h3, h4, h5, ce, hce, KE⟩ := X.ctorThrow0 M.1.1 htr (own := own) (cls := cls) (names := names) (ic := ic) M.1.2.2.2.1 hcls hnames (hat.use E M.2.1 hP0.2.1) (fun x hx => by cases hx) (a := H.size) hfc hkC (by rw [hT]; exact e1) hH
      (g := F0 m (pc + 3 + 1) ls (.ref H.size :: .ref H.size :: rest)) rfl (by rw [M.1.2.2.1]; exact hsz) rfl rfl (rest := rest) rfl (by rw [M.1.2.1]; exact hd4) (by rw [M.1.2.1]; exact hd7) (hout _) hRf
      (by show 2 * 0 + ((Value.ref H.size).category + (rest.map fun v => v.category).sum) + _ ≤ _; rw [show (Value.ref H.size).category = 1 from rfl]; omega)
    exact ⟨U, h1, _, h2, h3, TQ.of M hP0 ⟨ce, hce, KE.vm, KE.cls⟩ h4 h5 hmc hms⟩
  intro T hT X
  exact key (by rw [← hT]; exact X.same.2.1) T hT X
/-- the same, the constructor a nest mate's private one -/
theorem t_newN (E : Bs l s0 D G ad) (M : Mx p m c cc nL s args own s0 D G) (hlk : meth.locks = false) (hout : ∀ pc : Nat, ∀ x ∈ c.exceptionTable.toList, covers x pc = false) (hP0 : Px s0 D w s.heap []) (hsz : ls.size = nL) {cls host : String} {names : List String} {mc ms ic ix : Nat}
    (hat : XA (exAtoms cls names)) (hcls : Bundle.fit cls = true) (hnames : ∀ n ∈ names, Bundle.fit n = true) (hml : (Cond.methodLinkNest own ic (Bundle.init0 cls) host).before args s = true) (hcl : Cond.classLink own ix cls ∈ lw_all) (hinst : Cond.instantiable cls 6 ∈ lw_all) (hini : Cond.initialized cls ∈ lw_all)
    (hd0 : decode cc pc = .ok (.new ix, 3)) (hd3 : decode cc (pc + 3) = .ok (.dup, 1)) (hd4 : decode cc (pc + 4) = .ok (.invokespecial ic, 3)) (hd7 : decode cc (pc + 7) = .ok (.athrow, 1))
    (hRf : names.length + 3 < R.frames) (hRl : 1 + (rest.map fun v => v.category).sum + (13 * (names.length + 1) + 41) ≤ R.locals) (hRc : cells + 1 ≤ R.cells) (hRs : slots + 6 ≤ R.slots) (hmc : cells + 1 ≤ mc) (hms : slots + 6 ≤ ms) :
    W p l e R s m args below meth c H [] cells slots (MQT below s0 D w cls s mc ms) (F0 m pc ls rest) := by
  have key : s.heap.size ≤ H.size → W p l e R s m args below meth c H [] cells slots (MQT below s0 D w cls s mc ms) (F0 m pc ls rest) := by
    intro hH
    have hts := M.1.2.2.2.2
    obtain ⟨cX, kX, hfc, hkX, hord, -, -, -⟩ := Cond.instantiable_spec (hts _ hinst)
    refine W.newcK M.1.1 M.1.2.1 M.1.2.2.2.1 (hts _ hcl) (hts _ hinst) (hts _ hini) rfl hd0 hRc hRs hfc rfl fun H1 kC hkC e1 z1 o1 => ?_
    cases hkX.symm.trans hkC
    refine lv_dup M.1.1 M.1.2.1 hd3 rfl ?_
    intro T hT X
    have htr : e.platform.stackTraces = false := Launch.traces_off E.1 X.admits
    have hmon : e.platform.frameOwnsMonitors = true := by rw [X.admits.platform]
    have hfin : e.platform.finalization = false := by rw [X.admits.platform]
    have hpl : e.platform.magicAccessors = ({} : Platform).magicAccessors := by rw [X.admits.platform]
    have ha : ∀ z, z ∈ exAtoms cls names → z.before args s = true := fun z hz => hat.use E M.2.1 hP0.2.1 z hz
    have hb : ∀ z, z ∈ exAtoms cls names → z.holds args s none s [] = true := fun z hz => ha z hz
    obtain ⟨Th, Z, L, LZ, Y⟩ := ThrowableC.of_atoms (args := args) hmon hfin hpl (fun z hz => ha z (by simp [exAtoms, hz]))
    obtain ⟨P1, Ps, hlen, L1, hL, hPm, hk1, hk2⟩ := Bundle.chain0 (args := args) hpl Y.init0 names cls hcls hnames (fun z hz => ha z (by simp [exAtoms, hz]))
    have hcP : P1.m.cls = cX := Option.some.inj ((findClass_of_methodNamed hPm).symm.trans hfc)
    have hsel : ∀ (q : MethodId) (n : MethodName), s.methodNamed? n = some q → n.cls ≠ "java/lang/invoke/MethodHandle" ∧ n.cls ≠ "java/lang/invoke/VarHandle" → Cond.selects cls n n ∈ exAtoms cls names → selectMethod e.platform s.vm cX q = .method q := by
      intro q n hq hno hm
      obtain ⟨c2, r2, m2, g1, g2, g3, g4, -⟩ := Cond.selects_spec (hb _ hm)
      cases Option.some.inj (g1.symm.trans hfc)
      cases Option.some.inj (g2.symm.trans (State.methodFound?_of_named hq hno))
      cases Option.some.inj (g3.symm.trans hq)
      rw [Launch.admits_selectMethod X.admits]
      exact g4
    have hs0 := hsel _ _ Y.fill0 (by decide) (by simp [exAtoms])
    have hsF := hsel _ _ Y.fill (by decide) (by simp [exAtoms])
    obtain ⟨cS0, hcS0, hiss⟩ := Y.statics
    obtain ⟨u0, hu0⟩ := Cond.staticRefV Y.unassigned L.unassignedStatic L.statics hcS0 hiss (hb (.isRef (.static Bundle.tN "UNASSIGNED_STACK" Bundle.steD)) (by simp [exAtoms]))
    obtain ⟨sen, hsen⟩ := Cond.staticRefV Y.sentinel L.sentinelStatic L.statics hcS0 hiss (hb (.isRef (.static Bundle.tN "SUPPRESSED_SENTINEL" Bundle.listD)) (by simp [exAtoms]))
    obtain ⟨ciB, iB, fB, hkB, hgB, haB, hsB, -, hnB, htB, hfB⟩ := Cond.ownField (t := .object "java/lang/Object") Y.found L.cls (by decide +kernel) (hb (.fieldLink Bundle.tN 198 Bundle.tN "backtrace" "Ljava/lang/Object;") (by simp [exAtoms])) (hb (.lays Bundle.tN Bundle.tN "backtrace" "Ljava/lang/Object;") (by simp [exAtoms])) e.platform hpl
    obtain ⟨cellS, hcS, heS, -, hkeep⟩ := X.same.2.2.2.2.2 Th.aS cS0 hcS0
    have hcellS : T.heap[Th.aS]? = some cellS := hcS
    have hkn : cellS.vm ≠ .unknown := by
      rw [heS]
      intro hu
      rw [show cS0.vm = .unknown from hu] at hiss
      cases hiss
    have hne : Th.aS ≠ H.size := Nat.ne_of_lt (Nat.lt_of_lt_of_le (Array.getElem?_eq_some_iff.mp hcS0).1 hH)
    obtain ⟨tyC, dC, hdC, hdnC⟩ := Cond.laysAt hfc hkX Y.cause (hb (.lays cls Bundle.tN "cause" "Ljava/lang/Throwable;") (by simp [exAtoms]))
    obtain ⟨tyS, dS, hdS, hdnS⟩ := Cond.laysAt hfc hkX Y.stack (hb (.lays cls Bundle.tN "stackTrace" Bundle.steD) (by simp [exAtoms]))
    obtain ⟨tyP, dP, hdP, hdnP⟩ := Cond.laysAt hfc hkX Y.supp (hb (.lays cls Bundle.tN "suppressedExceptions" Bundle.listD) (by simp [exAtoms]))
    obtain ⟨tyB, dB, hdB, hdnB⟩ := Cond.laysAt hfc hkX hfB (hb (.lays cls Bundle.tN "backtrace" "Ljava/lang/Object;") (by simp [exAtoms]))
    have bC := Cond.laysApart hdB hdC hdnB hdnC (by rw [hnB, Y.causeName]; decide)
    have bS := Cond.laysApart hdB hdS hdnB hdnS (by rw [hnB, Y.stackName]; decide)
    have bP := Cond.laysApart hdB hdP hdnB hdnP (by rw [hnB, Y.suppName]; decide)
    have hskip : SkipFacts Th e.platform s (fun u => u) u0 ((preparedCellV Th.toThrowableT (freshCell cX kX) H.size u0 sen).withEntry T.cur) := by
      refine ⟨{ ci198 := ciB, i198 := iB, fBack := fB }, ⟨hkB, hgB, haB, hsB⟩, ?_, fun _ _ => rfl⟩
      have hd := fresh_default (c := cX) tyB
      rw [htB] at hd
      simpa [preparedCellV, Cell.setSlot, Cell.withEntry, Array.getElem?_setIfInBounds, bC, bS, bP, bC.symm, bS.symm, bP.symm, defaultValue] using hd
    have hpass : Cond.code (Bundle.init0 cls) Bundle.five 1 none ∈ exAtoms cls names ∧ Cond.instanceMethod (Bundle.init0 cls) ∈ exAtoms cls names := by
      constructor <;> (cases names <;> simp [exAtoms, Bundle.chain0Atoms, Bundle.passAtoms])
    obtain ⟨tm, mC, cdC, kC, vm1, hn1, -, -, -, -, -, -, -, hW1, st1⟩ := Steps.initColdArgsNest (tb := p.tables) (e := e) (below := below) (s := s) (U := T) X.here M.1.1 X.warmed hpl M.1.2.2.2.1 (t := Bundle.init0 cls) rfl (Bundle.fit_spec hcls).2 hml (ha _ hpass.2) (ha _ hpass.1)
      (f := F0 m (pc + 3 + 1) ls (.ref H.size :: .ref H.size :: rest)) rfl (a := H.size) (argsL := []) (rest := .ref H.size :: rest) (fun sig hsig => by
        have : parseMethodDescriptor "()V" = some sig := hsig
        rw [show parseMethodDescriptor "()V" = some ⟨[], none⟩ by decide +kernel] at this
        cases this
        rfl) rfl (by rw [M.1.2.1]; exact hd4)
    cases Option.some.inj (hn1.symm.trans hPm)
    have X1 := X.noted hW1
    have hcell : T.heap[H.size]? = some (freshCell cX kX) := by rw [hT]; exact e1
    have hnil : ∀ i, (⟨Th.aS, i⟩ : Loc) ∉ ([] : List Loc) := fun _ hq => by cases hq
    obtain ⟨vm2, X2, st2⟩ := X1.ctorPlainOffV M.1.1 (g := F0 m (pc + 3 + 1) ls (.ref H.size :: rest)) rfl (by rw [M.1.2.2.1]; exact hsz) Th L Z LZ (P1 :: Ps)
      (fun P hP => by rcases List.mem_cons.mp hP with rfl | hP; exact L1; exact hL P hP) ⟨hk1, hk2⟩ (u0 := u0) (sen := sen) (self := H.size) (cell := freshCell cX kX) (cellS := cellS)
      hcell (fun _ => by simp) (by simp) rfl rfl hs0 hsF hcellS hne hkn (by rw [hkeep _ (hnil _)]; exact hu0) (by rw [hkeep _ (hnil _)]; exact hsen)
      (Takes.of_laid hkX hord tyC (by rw [Y.causeType]; rfl)) (Takes.of_laid hkX hord tyS (by rw [Y.stackType]; exact fits_refV_array _ u0)) (Takes.of_laid hkX hord tyP (by rw [Y.suppType]; exact fits_refV_object _ sen)) Y.objLocals hskip htr [] (by rw [M.1.2.1]; exact hd4)
      (by simp only [List.length_cons, hlen]; omega) (by simp only [List.length_cons, hlen]; show 2 * 0 + ((Value.ref H.size).category + (rest.map fun v => v.category).sum) + _ ≤ _; rw [show (Value.ref H.size).category = 1 from rfl]; omega)
    obtain ⟨hwalk, hrun, hend, hWU, hsame⟩ := X2.athrowLeaves M.1.1 (g := F0 m (pc + 3 + 1 + 3) ls (.ref H.size :: rest)) rfl rfl rfl (hout _) (a := H.size) (rest := rest) rfl (by rw [M.1.2.1]; exact hd7)
    have hsame' := hsame.weaken (l' := []) (fun y hy hlt => by
      exfalso
      have hy2 : y.base = H.size := by
        rcases List.mem_append.mp hy with h1 | h1
        · cases h1
        · simp only [List.mem_cons, List.not_mem_nil, or_false] at h1
          rcases h1 with rfl | rfl | rfl | rfl <;> rfl
      rw [hy2] at hlt
      exact Nat.not_lt.mpr hH hlt) (Nat.le_refl _) (Nat.le_refl _)
    have hlt : H.size < ((T.setVm vm1).setVm vm2).heap.size := (Array.getElem?_eq_some_iff.mp hcell).1
    have hU := heapAt_setCell_self (s := (T.setVm vm1).setVm vm2) ((preparedCellV Th.toThrowableT (freshCell cX kX) H.size u0 sen).setSlot Th.fStack.slot u0.v) hlt
    exact ⟨_, st1 _ (fun acts => by rw [doInvoke_state]; exact st2 _ hwalk), _, hrun, hend, TQ.of M hP0 ⟨_, hU, rfl, hfc⟩ hWU hsame' hmc hms⟩
  intro T hT X
  exact key (by rw [← hT]; exact X.same.2.1) T hT X
end TX
end
section
/-! ===== a call that throws ===== -/
section TC
variable {p : Program} {l : Launch} {e : Env} {R : Room} {s : State} {m : MethodId} {args : Array Value} {below : List Frame} {meth : Method} {c : Code} {H : Heap} {locs : List Loc} {cells slots : Nat} {Q : State → Prop}
variable {cc : ByteArray} {nL : Nat} {own : String} {s0 : State} {D : va_G} {G ad : Nat → Nat} {w : mm} {pc : Nat} {ls : Array Slot} {rest st0 : List Value}
theorem t_callV (n : Nat) (M : Mx p m c cc nL s args own s0 D G) {y : MethodName} {bytes : ByteArray} {maxL index b : Nat} {ret : Option FieldType} {rm : Room} {As : List Value} {C cls : String} (hM : MetT l y bytes maxL ret rm (.ref b :: As) s0 D w cls) (hP : Px s0 D w H locs) (hr : Rc s0 w b C) (hG : GoodIn lw_all (wsV own index C y (ws_ y bytes maxL ret)))
    (hd : y.cls = C ∧ y.cls ≠ "java/lang/invoke/MethodHandle" ∧ y.cls ≠ "java/lang/invoke/VarHandle" ∧ (parseMethodDescriptor y.desc).map (fun d => d.parameters.length) = some n) (hn : As.length = n) (hR : rm.frames + 1 ≤ R.frames ∧ 8 + (maxL + 11) + rm.locals ≤ R.locals) (hsz : ls.size = nL) (hst : st0 = As.reverse ++ .ref b :: rest) (hW8 : (rest.map fun v => v.category).sum ≤ 8) (hdg : decode cc pc = .ok (.invokevirtual index, 3)) (hf : cells + rm.cells ≤ R.cells ∧ slots + rm.slots ≤ R.slots)
    (kk : ∀ (x : Nat) (T : State) (L : List Loc), Stand p l e R s m args below meth c T (locs ++ L) (cells + rm.cells) (slots + rm.slots) → Px s0 D w T.heap (locs ++ L) → (∃ cell : Cell, T.heap[x]? = some cell ∧ cell.vm = .none ∧ s0.vm.findClass cls = some cell.cls) → ∃ t, Steps p.tables e below ((T.setTop (F0 m pc ls rest)).pushFrame (.throwing x)) t ∧ Q t) : W p l e R s m args below meth c H locs cells slots Q (F0 m pc ls st0) := by
  have cw : CallW R s args own C index y bytes maxL ret (ws_ y bytes maxL ret) rm rm.cells rm.slots n := cwV n M.1.2.2.2.2 hG rfl rfl rfl hd hR
  obtain ⟨⟨-, -, hfr, hlo, hws, hcw, hcode, hini, hy, hlen, hl⟩, hin, hse⟩ := cw
  obtain ⟨cellB, hcB, hoB, hclB⟩ := hr.cell M hP
  intro T hT X
  obtain ⟨mk, methM, hnamed, hmethM, hstM, habM⟩ := Cond.instanceMethod_spec hin
  obtain ⟨methM', cM, hmethM', hcM, -, hlM, -, -, -, hsigM⟩ := Cond.code_spec hnamed hcode
  cases hmethM.symm.trans hmethM'
  obtain ⟨c2, r2, m2, q1, q2, q3, q4, kP, hkP, hkPi⟩ := Cond.selects_spec hse
  cases hclB.symm.trans q1
  cases (State.methodFound?_of_named hnamed hy).symm.trans q2
  cases hnamed.symm.trans q3
  have hselP : selectMethod e.platform s.vm cellB.cls mk = .method mk := by rw [Launch.admits_selectMethod X.admits]; exact q4
  obtain ⟨vm1, X1, hstep⟩ := X.invokevirtual M.1.1 M.1.2.2.2.1 hl hnamed hmethM hstM hkP hkPi hy (a := b) (cell := cellB) (by rw [hT]; exact hcB)
    (fun z h => by rw [h] at hoB; cases hoB) hselP hmethM habM hkP hkPi (g := F0 m pc ls st0) rfl (argsL := As) (rest := rest) (hn.trans (hlen _ hsigM)) hst (by rw [M.1.2.1]; exact hdg)
  obtain ⟨U, hU⟩ : ∃ U : State, U = T.setVm vm1 := ⟨_, rfl⟩
  rw [← hU] at X1 hstep
  have hUh : U.heap = H := by rw [hU]; exact hT
  obtain ⟨g, hg⟩ : ∃ g : JFrame, g = F0 m pc ls rest := ⟨_, rfl⟩
  have hgm : g.method = m := by rw [hg]
  have hgs : g.locals.size = c.maxLocals := by rw [hg, M.1.2.2.1]; exact hsz
  have hgd : decode c.code g.pc = .ok (.invokevirtual index, 3) := by rw [hg, M.1.2.1]; exact hdg
  have hgr : 2 * g.monitorRoom + (g.stack.map fun v => v.category).sum ≤ 8 := by rw [hg]; exact lv_room hW8
  have h : At U g.method c below := by rw [hgm]; exact X1.here
  have hnU := X1.named hnamed
  obtain ⟨kY, hkY, -⟩ := className_of_methodNamed hnU
  have hwsU : ∀ w ∈ ws_ y bytes maxL ret, w.before (Value.ref b :: As).toArray U = true := fun w hw => hws w hw _ _ X1.warmed
  obtain ⟨methY, cY, hmY, hcY, -, hlY, -, -, -, -⟩ := Cond.code_spec hnU (hwsU _ hcw)
  have hiniU : (Cond.initialized y.cls).before (Value.ref b :: As).toArray U = true := word_at X1.warmed (Or.inl (by first | rfl | simp [Cond.onTables, Cond.keeps, Cond.steady])) hini
  have hinitY : kY.init = .initialized := Cond.initialized_spec (findClass_of_methodNamed hnU) hkY hiniU
  have happ : (headSpec (ws_ y bytes maxL ret) rm).appliesLoose y e.platform (U.calling g mk (Value.ref b :: As).toArray) = true :=
    Spec.appliesLoose_calling (g := g) h hgd hnU hkY hinitY
      (X1.room_calling (g := g) (R' := rm) hgs hmY hcY hfr (by rw [hlY]; omega) hf.1 hf.2) (atoms_intro hwsU)
  obtain ⟨mid, hmid⟩ := h.above
  have hfrU : (U.setTop g).frames = (.java g :: mid) ++ below := by rw [State.frames_setTop' g h.top, hmid]; rfl
  have hPre : va_Pc (.ref b :: As) (Cx s0 D w) (Value.ref b :: As).toArray (U.calling g mk (Value.ref b :: As).toArray) := Cx.blind _ _ _ _ ⟨rfl, State.WarmedH.trans M.2.1 X1.warmed, by rw [hUh]; exact hP.nil⟩
  obtain ⟨o, s2, hsteps, -, hend, x, rfl, hcell, hC, hW2, L, hsame, hL⟩ := Steps.callFree hM p X1.admits X1.cas X1.clock (acts := []) hfrU happ hPre trivial
  have hW' : U.WarmedH s2.vm := hW2
  obtain ⟨e2, q2, q3, q4, q5, q6⟩ := id hsame
  have e3 : s2 = ({ (U.calling g mk (Value.ref b :: As).toArray).setFrames s2.frames with heap := s2.heap, slotsUsed := s2.slotsUsed } : State).setVm s2.vm := by
    have e4 : s2 = ({ s2 with vm := (U.calling g mk (Value.ref b :: As).toArray).vm } : State).setVm s2.vm := rfl
    exact e4.trans (congrArg (fun z : State => z.setVm s2.vm) e2)
  rw [State.frames_setTop' g h.top] at hend
  have hf2 : s2.frames = .throwing x :: .java g :: U.frames.tail := hend
  obtain ⟨g0, hg0⟩ := Option.isSome_iff_exists.mp h.top
  obtain ⟨r, hrr⟩ := State.topJava?_eq_some.mp hg0
  obtain ⟨T2, hT2⟩ : ∃ T2 : State, T2 = ({ U with heap := s2.heap, slotsUsed := s2.slotsUsed } : State).setVm s2.vm := ⟨_, rfl⟩
  have hs2 : s2 = (T2.setTop g).pushFrame (.throwing x) := by
    have hr' : T2.frames = .java g0 :: r := by rw [hT2]; exact hrr
    refine e3.trans ?_
    rw [hf2, State.calling_eq h.top, State.setFrames_setFrames, State.pushFrame, State.frames_setTop _ hr', State.setTop_of_frames _ hr', State.setFrames_setFrames, hrr, hT2]
    rfl
  have hsm : U.sameButNew ({ U with heap := s2.heap, slotsUsed := s2.slotsUsed } : State) L rm.cells rm.slots := by
    refine ⟨?_, q2, q3, q4, q5, q6⟩
    obtain ⟨t, ht, -⟩ := State.frames_cons hrr
    show ({ U with heap := s2.heap, slotsUsed := s2.slotsUsed } : State) = { U.setFrames U.frames with heap := s2.heap, slotsUsed := s2.slotsUsed }
    rw [State.setFrames_self ht]
  have X2 : Stand p l e R s m args below meth c T2 (locs ++ L) (cells + rm.cells) (slots + rm.slots) := by
    rw [hT2]
    exact ⟨X1.admits, X1.cas, X1.clock, X1.frames, X1.room, X1.hears, X1.method, X1.code, (X1.here.setHeapUsed s2.heap s2.slotsUsed).setVm hW'.alike, X1.tail, State.WarmedH.trans X1.warmed hW', X1.limits, X1.bytes, X1.same.trans (hsm.setVm s.vm)⟩
  have hh2 : T2.heap = s2.heap := by rw [hT2]; rfl
  obtain ⟨t, a1, b1⟩ := kk x T2 L X2 (by rw [hh2]; exact hC.2.locs hP.2.2.2 hL) (by rw [hh2]; exact hcell)
  rw [← hg, ← hs2] at a1
  refine ⟨t, hstep t (fun acts => ?_), b1⟩
  rw [doInvoke_state]
  have hgg : ({ F0 m pc ls st0 with stack := rest } : JFrame) = g := by rw [hg]
  rw [hgg]
  exact hsteps.trans a1
/-- what was thrown in a callee leaves this method too -/
theorem t_out (M : Mx p m c cc nL s args own s0 D G) (hlk : meth.locks = false) (hout : ∀ pc : Nat, ∀ x ∈ c.exceptionTable.toList, covers x pc = false) {T : State} {x mc ms : Nat} {cls : String} (X : Stand p l e R s m args below meth c T locs cells slots) (hP : Px s0 D w T.heap locs) (hc : ∃ cell : Cell, T.heap[x]? = some cell ∧ cell.vm = .none ∧ s0.vm.findClass cls = some cell.cls) (hmc : cells ≤ mc) (hms : slots ≤ ms) :
    ∃ t, Steps p.tables e below ((T.setTop (F0 m pc ls rest)).pushFrame (.throwing x)) t ∧ MQT below s0 D w cls s mc ms t := by
  obtain ⟨h1, h2, h3, h4, h5⟩ := X.leaveThrown x (g := F0 m pc ls rest) rfl rfl rfl (hout _)
  exact ⟨_, h1, x, h2, h3, hc, ⟨State.WarmedH.trans M.2.1 h4, hP.nil⟩, h4, locs, h5.mono hmc hms, hP.2.2.2⟩
end TC

/-! ===== Part.fail, Part.done ===== -/
/-- a part's fields -/
abbrev oP (v : Int64) (k : Int32) : va_E := .inr (1, [.long v, .int k])
theorem Px.drop {s0 : State} {D : va_G} {w : mm} {q : Nat} {x : Nat × va_E} {H : Heap} {locs : List Loc} (h : Px s0 D (mset w q x) H locs) (hq : w q = none) : Px s0 D w H locs := h.less (fun a y ha => by
  rw [mset_ne _ _ (fun z => by rw [z, hq] at ha; cases ha)]
  exact ha)
/-- what a part throws -/
def exN : Nat → String
  | 1 => "java/lang/ArithmeticException"
  | 2 => "java/lang/ArrayIndexOutOfBoundsException"
  | 3 => "java/lang/NegativeArraySizeException"
  | 4 => "MainframeDesk$Part$Stuck"
  | 5 => "java/lang/IllegalArgumentException"
  | _ => "java/lang/UnsupportedOperationException"

set_option maxHeartbeats 4000000 in
set_option maxRecDepth 100000 in
/-- Part.fail(), no failure -/
theorem m_fail0 {l : Launch} {s0 : State} {D : va_G} {G ad : Nat → Nat} {w : mm} (E : Bs l s0 D G ad) {a t : Nat} {v : Int64} (h : w a = some (t, oP v 0)) : Mt l yX1_fail cX1_fail 2 (none) (rmk 0 1 1 0) [.ref a] s0 D w (Qv s0 D (fun w1 => w1 = w)) := by
  refine Met.go E (by decide +kernel) (Nat.le_of_ble_eq_true rfl) (fun p ev s m below meth c ls M hr hlk hnm hl hP => ?_)
  have hx := M.1.1
  have hb := M.1.2.1
  have hl : lv_has ls 2 [(0, .ref a)] := hl
  refine lv_iconst (v := 1) hx hb dX1_fail_0 (by decide) ?_
  refine r_newI M hP 0 (by decide) (N' := 1) (by decide +kernel) (by decide) (Nat.le_of_ble_eq_true rfl) (Nat.le_of_ble_eq_true rfl) dX1_fail_1 (fun q H nq hP => ?_)
  have hq1 : mset w q (0, eI G 1 (fun _ => 0)) q = some (0, eI G 1 (fun _ => 0)) := mset_self ..
  have h1 : mset w q (0, eI G 1 (fun _ => 0)) a = some (t, oP v 0) := by rw [mset_ne _ _ (mm_nn h nq)]; exact h
  refine lv_astore_n (lv' := [(1, .ref q), (0, .ref a)]) hx hb dX1_fail_3 rfl hl (by decide) rfl (fun ls hl => ?_)
  refine lv_aload_n hx hb dX1_fail_4 rfl (lv_at hl 1 rfl) ?_
  refine r_get M cdX1 hP h1 1 (by decide) q150 (fun _ h9 => h9) rfl dX1_fail_5 ?_
  refine lv_tableOut (tgt := 105) hx hb dX1_fail_8 (by decide +kernel) (by decide) ?_
  exact r_vret M hr hlk (hP.drop nq) rfl dX1_fail_105 (Nat.le_of_ble_eq_true rfl) (Nat.le_of_ble_eq_true rfl)
set_option maxHeartbeats 4000000 in
set_option maxRecDepth 100000 in
/-- it divides by 0 -/
theorem m_fail1 {l : Launch} {s0 : State} {D : va_G} {G ad : Nat → Nat} {w : mm} (E : Bs l s0 D G ad) {a t : Nat} {v : Int64} (h : w a = some (t, oP v 1)) : MetT l yX1_fail cX1_fail 2 (none) (rmk 8 4 230 10250) [.ref a] s0 D w (exN 1) := by
  refine MetT.go E (by decide +kernel) (Nat.le_of_ble_eq_true rfl) (fun p ev s m below meth c ls M hlk hout hl hP => ?_)
  have hx := M.1.1
  have hb := M.1.2.1
  have hP0 := hP
  have hl : lv_has ls 2 [(0, .ref a)] := hl
  refine lv_iconst (v := 1) hx hb dX1_fail_0 (by decide) ?_
  refine r_newI M hP 0 (by decide) (N' := 1) (by decide +kernel) (by decide) (Nat.le_of_ble_eq_true rfl) (Nat.le_of_ble_eq_true rfl) dX1_fail_1 (fun q H nq hP => ?_)
  have hq1 : mset w q (0, eI G 1 (fun _ => 0)) q = some (0, eI G 1 (fun _ => 0)) := mset_self ..
  have h1 : mset w q (0, eI G 1 (fun _ => 0)) a = some (t, oP v 1) := by rw [mset_ne _ _ (mm_nn h nq)]; exact h
  refine lv_astore_n (lv' := [(1, .ref q), (0, .ref a)]) hx hb dX1_fail_3 rfl hl (by decide) rfl (fun ls hl => ?_)
  refine lv_aload_n hx hb dX1_fail_4 rfl (lv_at hl 1 rfl) ?_
  refine r_get M cdX1 hP h1 1 (by decide) q150 (fun _ h9 => h9) rfl dX1_fail_5 ?_
  refine lv_tableIn (tgt := 48) hx hb dX1_fail_8 (by decide +kernel) (by decide +kernel) rfl (by decide) ?_
  refine lv_aload_n hx hb dX1_fail_48 rfl (lv_at hl 0 rfl) ?_
  refine lv_iconst (v := 0) hx hb dX1_fail_49 (by decide) ?_
  refine lv_iconst (v := 1) hx hb dX1_fail_50 (by decide) ?_
  refine lv_aload_n hx hb dX1_fail_51 rfl (lv_at hl 0 rfl) ?_
  refine lv_iconst (v := 0) hx hb dX1_fail_52 (by decide) ?_
  refine r_iald M hP hq1 (pk_in 0 1 (by decide)) dX1_fail_53 ?_
  refine t_msg (names := ["java/lang/RuntimeException", "java/lang/Exception"]) (text := "/ by zero") (rest := [.int 0, .ref q]) (cls := "java/lang/ArithmeticException") E M hlk hout hP0 hl.1 (fun T hT X => X.idivZero M.1.1 (g := F0 m 54 ls [.int 0, .int 1, .int 0, .ref q]) rfl (a := 1) (rest := [.int 0, .ref q]) rfl (by rw [hb]; exact dX1_fail_54)) a_ari (by decide +kernel) (by decide +kernel) (by decide) (by decide) (by decide +kernel) (by decide +kernel) (Nat.le_of_ble_eq_true rfl) (Nat.le_of_ble_eq_true rfl) (by decide) (Nat.le_of_ble_eq_true rfl) (Nat.le_of_ble_eq_true rfl) (Nat.le_of_ble_eq_true rfl) (Nat.le_of_ble_eq_true rfl)
set_option maxHeartbeats 4000000 in
set_option maxRecDepth 100000 in
/-- it writes past an array -/
theorem m_fail2 {l : Launch} {s0 : State} {D : va_G} {G ad : Nat → Nat} {w : mm} (E : Bs l s0 D G ad) {a t : Nat} {v : Int64} (h : w a = some (t, oP v 2)) : MetT l yX1_fail cX1_fail 2 (none) (rmk 8 4 230 10250) [.ref a] s0 D w (exN 2) := by
  refine MetT.go E (by decide +kernel) (Nat.le_of_ble_eq_true rfl) (fun p ev s m below meth c ls M hlk hout hl hP => ?_)
  have hx := M.1.1
  have hb := M.1.2.1
  have hP0 := hP
  have hl : lv_has ls 2 [(0, .ref a)] := hl
  refine lv_iconst (v := 1) hx hb dX1_fail_0 (by decide) ?_
  refine r_newI M hP 0 (by decide) (N' := 1) (by decide +kernel) (by decide) (Nat.le_of_ble_eq_true rfl) (Nat.le_of_ble_eq_true rfl) dX1_fail_1 (fun q H nq hP => ?_)
  have hq1 : mset w q (0, eI G 1 (fun _ => 0)) q = some (0, eI G 1 (fun _ => 0)) := mset_self ..
  have h1 : mset w q (0, eI G 1 (fun _ => 0)) a = some (t, oP v 2) := by rw [mset_ne _ _ (mm_nn h nq)]; exact h
  refine lv_astore_n (lv' := [(1, .ref q), (0, .ref a)]) hx hb dX1_fail_3 rfl hl (by decide) rfl (fun ls hl => ?_)
  refine lv_aload_n hx hb dX1_fail_4 rfl (lv_at hl 1 rfl) ?_
  refine r_get M cdX1 hP h1 1 (by decide) q150 (fun _ h9 => h9) rfl dX1_fail_5 ?_
  refine lv_tableIn (tgt := 59) hx hb dX1_fail_8 (by decide +kernel) (by decide +kernel) rfl (by decide) ?_
  refine lv_aload_n hx hb dX1_fail_59 rfl (lv_at hl 0 rfl) ?_
  refine lv_aload_n hx hb dX1_fail_60 rfl (lv_at hl 1 rfl) ?_
  refine r_get M cdX1 hP h1 1 (by decide) q150 (fun _ h9 => h9) rfl dX1_fail_61 ?_
  refine lv_iconst (v := 1) hx hb dX1_fail_64 (by decide) ?_
  have hcell : H[q]? = some (arrV (G 0) 1 (fun _ => .int 0)) := hP.at hq1
  refine t_msg (names := ["java/lang/IndexOutOfBoundsException", "java/lang/RuntimeException", "java/lang/Exception"]) (rest := []) (cls := "java/lang/ArrayIndexOutOfBoundsException") E M hlk hout hP0 hl.1 (fun T hT X => X.iastoreOut M.1.1 (a := q) (cell := arrV (G 0) 1 (fun _ => .int 0)) (j := 2) (x := 1) (by rw [hT]; exact hcell) ((M.2.2.2 0 _ rfl).1 1 (fun _ => .int 0)) (Or.inr (by rw [arrV_size]; decide +kernel)) (g := F0 m 65 ls [.int 1, .int 2, .ref q]) rfl (rest := []) rfl (by rw [hb]; exact dX1_fail_65)) a_idx (by decide +kernel) (by decide +kernel) (by decide) (by decide) (index_text_modelled _ _) (index_text_bytes _ (by rw [arrV_size]; decide)) (Nat.le_of_ble_eq_true rfl) (Nat.le_of_ble_eq_true rfl) (by decide) (Nat.le_of_ble_eq_true rfl) (Nat.le_of_ble_eq_true rfl) (Nat.le_of_ble_eq_true rfl) (Nat.le_of_ble_eq_true rfl)
set_option maxHeartbeats 4000000 in
set_option maxRecDepth 100000 in
/-- it makes an array of a negative length -/
theorem m_fail3 {l : Launch} {s0 : State} {D : va_G} {G ad : Nat → Nat} {w : mm} (E : Bs l s0 D G ad) {a t : Nat} {v : Int64} (h : w a = some (t, oP v 3)) : MetT l yX1_fail cX1_fail 2 (none) (rmk 8 4 230 10250) [.ref a] s0 D w (exN 3) := by
  refine MetT.go E (by decide +kernel) (Nat.le_of_ble_eq_true rfl) (fun p ev s m below meth c ls M hlk hout hl hP => ?_)
  have hx := M.1.1
  have hb := M.1.2.1
  have hP0 := hP
  have hl : lv_has ls 2 [(0, .ref a)] := hl
  refine lv_iconst (v := 1) hx hb dX1_fail_0 (by decide) ?_
  refine r_newI M hP 0 (by decide) (N' := 1) (by decide +kernel) (by decide) (Nat.le_of_ble_eq_true rfl) (Nat.le_of_ble_eq_true rfl) dX1_fail_1 (fun q H nq hP => ?_)
  have hq1 : mset w q (0, eI G 1 (fun _ => 0)) q = some (0, eI G 1 (fun _ => 0)) := mset_self ..
  have h1 : mset w q (0, eI G 1 (fun _ => 0)) a = some (t, oP v 3) := by rw [mset_ne _ _ (mm_nn h nq)]; exact h
  refine lv_astore_n (lv' := [(1, .ref q), (0, .ref a)]) hx hb dX1_fail_3 rfl hl (by decide) rfl (fun ls hl => ?_)
  refine lv_aload_n hx hb dX1_fail_4 rfl (lv_at hl 1 rfl) ?_
  refine r_get M cdX1 hP h1 1 (by decide) q150 (fun _ h9 => h9) rfl dX1_fail_5 ?_
  refine lv_tableIn (tgt := 69) hx hb dX1_fail_8 (by decide +kernel) (by decide +kernel) rfl (by decide) ?_
  refine lv_iconst (v := 0) hx hb dX1_fail_69 (by decide) ?_
  refine lv_aload_n hx hb dX1_fail_70 rfl (lv_at hl 1 rfl) ?_
  refine r_get M cdX1 hP h1 1 (by decide) q150 (fun _ h9 => h9) rfl dX1_fail_71 ?_
  refine lv_isub hx hb dX1_fail_74 ?_
  refine t_msg (names := ["java/lang/RuntimeException", "java/lang/Exception"]) (text := toString (0 - 3 : Int32)) (rest := []) (cls := "java/lang/NegativeArraySizeException") E M hlk hout hP0 hl.1 (fun T hT X => X.newarrayNegative M.1.1 (g := F0 m 75 ls [.int (0 - 3)]) rfl (n := 0 - 3) (by decide +kernel) (rest := []) rfl (by rw [hb]; exact dX1_fail_75)) a_neg (by decide +kernel) (by decide +kernel) (by decide) (by decide) (by decide +kernel) (by decide +kernel) (Nat.le_of_ble_eq_true rfl) (Nat.le_of_ble_eq_true rfl) (by decide) (Nat.le_of_ble_eq_true rfl) (Nat.le_of_ble_eq_true rfl) (Nat.le_of_ble_eq_true rfl) (Nat.le_of_ble_eq_true rfl)
set_option maxHeartbeats 4000000 in
set_option maxRecDepth 100000 in
/-- it throws Stuck -/
theorem m_fail4 {l : Launch} {s0 : State} {D : va_G} {G ad : Nat → Nat} {w : mm} (E : Bs l s0 D G ad) {a t : Nat} {v : Int64} (h : w a = some (t, oP v 4)) : MetT l yX1_fail cX1_fail 2 (none) (rmk 8 4 230 10250) [.ref a] s0 D w (exN 4) := by
  refine MetT.go E (by decide +kernel) (Nat.le_of_ble_eq_true rfl) (fun p ev s m below meth c ls M hlk hout hl hP => ?_)
  have hx := M.1.1
  have hb := M.1.2.1
  have hP0 := hP
  have hl : lv_has ls 2 [(0, .ref a)] := hl
  refine lv_iconst (v := 1) hx hb dX1_fail_0 (by decide) ?_
  refine r_newI M hP 0 (by decide) (N' := 1) (by decide +kernel) (by decide) (Nat.le_of_ble_eq_true rfl) (Nat.le_of_ble_eq_true rfl) dX1_fail_1 (fun q H nq hP => ?_)
  have hq1 : mset w q (0, eI G 1 (fun _ => 0)) q = some (0, eI G 1 (fun _ => 0)) := mset_self ..
  have h1 : mset w q (0, eI G 1 (fun _ => 0)) a = some (t, oP v 4) := by rw [mset_ne _ _ (mm_nn h nq)]; exact h
  refine lv_astore_n (lv' := [(1, .ref q), (0, .ref a)]) hx hb dX1_fail_3 rfl hl (by decide) rfl (fun ls hl => ?_)
  refine lv_aload_n hx hb dX1_fail_4 rfl (lv_at hl 1 rfl) ?_
  refine r_get M cdX1 hP h1 1 (by decide) q150 (fun _ h9 => h9) rfl dX1_fail_5 ?_
  refine lv_tableIn (tgt := 81) hx hb dX1_fail_8 (by decide +kernel) (by decide +kernel) rfl (by decide) ?_
  refine t_newN E M hlk hout hP0 hl.1 (cls := "MainframeDesk$Part$Stuck") a_stk (by decide +kernel) (by decide +kernel) (va_Nw.use rfl (E.mnest M.2.1 q428)) q417 q418 q39 dX1_fail_81 dX1_fail_84 dX1_fail_85 dX1_fail_88 (Nat.le_of_ble_eq_true rfl) (Nat.le_of_ble_eq_true rfl) (Nat.le_of_ble_eq_true rfl) (Nat.le_of_ble_eq_true rfl) (Nat.le_of_ble_eq_true rfl) (Nat.le_of_ble_eq_true rfl)
set_option maxHeartbeats 4000000 in
set_option maxRecDepth 100000 in
/-- it throws IllegalArgumentException -/
theorem m_fail5 {l : Launch} {s0 : State} {D : va_G} {G ad : Nat → Nat} {w : mm} (E : Bs l s0 D G ad) {a t : Nat} {v : Int64} (h : w a = some (t, oP v 5)) : MetT l yX1_fail cX1_fail 2 (none) (rmk 8 4 230 10250) [.ref a] s0 D w (exN 5) := by
  refine MetT.go E (by decide +kernel) (Nat.le_of_ble_eq_true rfl) (fun p ev s m below meth c ls M hlk hout hl hP => ?_)
  have hx := M.1.1
  have hb := M.1.2.1
  have hP0 := hP
  have hl : lv_has ls 2 [(0, .ref a)] := hl
  refine lv_iconst (v := 1) hx hb dX1_fail_0 (by decide) ?_
  refine r_newI M hP 0 (by decide) (N' := 1) (by decide +kernel) (by decide) (Nat.le_of_ble_eq_true rfl) (Nat.le_of_ble_eq_true rfl) dX1_fail_1 (fun q H nq hP => ?_)
  have hq1 : mset w q (0, eI G 1 (fun _ => 0)) q = some (0, eI G 1 (fun _ => 0)) := mset_self ..
  have h1 : mset w q (0, eI G 1 (fun _ => 0)) a = some (t, oP v 5) := by rw [mset_ne _ _ (mm_nn h nq)]; exact h
  refine lv_astore_n (lv' := [(1, .ref q), (0, .ref a)]) hx hb dX1_fail_3 rfl hl (by decide) rfl (fun ls hl => ?_)
  refine lv_aload_n hx hb dX1_fail_4 rfl (lv_at hl 1 rfl) ?_
  refine r_get M cdX1 hP h1 1 (by decide) q150 (fun _ h9 => h9) rfl dX1_fail_5 ?_
  refine lv_tableIn (tgt := 89) hx hb dX1_fail_8 (by decide +kernel) (by decide +kernel) rfl (by decide) ?_
  refine t_new0 E M hlk hout hP0 hl.1 (cls := "java/lang/IllegalArgumentException") a_iae (by decide +kernel) (by decide +kernel) q444 q445 q40 dX1_fail_89 dX1_fail_92 dX1_fail_93 dX1_fail_96 (Nat.le_of_ble_eq_true rfl) (Nat.le_of_ble_eq_true rfl) (Nat.le_of_ble_eq_true rfl) (Nat.le_of_ble_eq_true rfl) (Nat.le_of_ble_eq_true rfl) (Nat.le_of_ble_eq_true rfl)
set_option maxHeartbeats 4000000 in
set_option maxRecDepth 100000 in
/-- it throws UnsupportedOperationException -/
theorem m_fail6 {l : Launch} {s0 : State} {D : va_G} {G ad : Nat → Nat} {w : mm} (E : Bs l s0 D G ad) {a t : Nat} {v : Int64} (h : w a = some (t, oP v 6)) : MetT l yX1_fail cX1_fail 2 (none) (rmk 8 4 230 10250) [.ref a] s0 D w (exN 6) := by
  refine MetT.go E (by decide +kernel) (Nat.le_of_ble_eq_true rfl) (fun p ev s m below meth c ls M hlk hout hl hP => ?_)
  have hx := M.1.1
  have hb := M.1.2.1
  have hP0 := hP
  have hl : lv_has ls 2 [(0, .ref a)] := hl
  refine lv_iconst (v := 1) hx hb dX1_fail_0 (by decide) ?_
  refine r_newI M hP 0 (by decide) (N' := 1) (by decide +kernel) (by decide) (Nat.le_of_ble_eq_true rfl) (Nat.le_of_ble_eq_true rfl) dX1_fail_1 (fun q H nq hP => ?_)
  have hq1 : mset w q (0, eI G 1 (fun _ => 0)) q = some (0, eI G 1 (fun _ => 0)) := mset_self ..
  have h1 : mset w q (0, eI G 1 (fun _ => 0)) a = some (t, oP v 6) := by rw [mset_ne _ _ (mm_nn h nq)]; exact h
  refine lv_astore_n (lv' := [(1, .ref q), (0, .ref a)]) hx hb dX1_fail_3 rfl hl (by decide) rfl (fun ls hl => ?_)
  refine lv_aload_n hx hb dX1_fail_4 rfl (lv_at hl 1 rfl) ?_
  refine r_get M cdX1 hP h1 1 (by decide) q150 (fun _ h9 => h9) rfl dX1_fail_5 ?_
  refine lv_tableIn (tgt := 97) hx hb dX1_fail_8 (by decide +kernel) (by decide +kernel) rfl (by decide) ?_
  refine t_new0 E M hlk hout hP0 hl.1 (cls := "java/lang/UnsupportedOperationException") a_uoe (by decide +kernel) (by decide +kernel) q459 q460 q41 dX1_fail_97 dX1_fail_100 dX1_fail_101 dX1_fail_104 (Nat.le_of_ble_eq_true rfl) (Nat.le_of_ble_eq_true rfl) (Nat.le_of_ble_eq_true rfl) (Nat.le_of_ble_eq_true rfl) (Nat.le_of_ble_eq_true rfl) (Nat.le_of_ble_eq_true rfl)
theorem m_failT {l : Launch} {s0 : State} {D : va_G} {G ad : Nat → Nat} {w : mm} (E : Bs l s0 D G ad) {a t k : Nat} {v : Int64} (h : w a = some (t, oP v (nI k))) (h1 : 1 ≤ k) (h2 : k ≤ 6) : MetT l yX1_fail cX1_fail 2 none (rmk 8 4 230 10250) [.ref a] s0 D w (exN k) := by
  have hk : k = 1 ∨ k = 2 ∨ k = 3 ∨ k = 4 ∨ k = 5 ∨ k = 6 := by omega
  rcases hk with rfl | rfl | rfl | rfl | rfl | rfl
  · exact m_fail1 E h
  · exact m_fail2 E h
  · exact m_fail3 E h
  · exact m_fail4 E h
  · exact m_fail5 E h
  · exact m_fail6 E h
set_option maxHeartbeats 4000000 in
set_option maxRecDepth 100000 in
/-- Part.done, when it fails -/
theorem m_doneT {l : Launch} {s0 : State} {D : va_G} {G ad : Nat → Nat} {w : mm} (E : Bs l s0 D G ad) {a t k th ro : Nat} {v b : Int64} (h : w a = some (t, oP v (nI k))) (h1 : 1 ≤ k) (h2 : k ≤ 6) : MetT l yX1_done cX1_done 10 (some FieldType.long) (rmk 9 4 230 10271) [.ref a, .ref th, .long b, .ref ro] s0 D w (exN k) := by
  refine MetT.go E (by decide +kernel) (Nat.le_of_ble_eq_true rfl) (fun p ev s m below meth c ls M hlk hout hl hP => ?_)
  have hx := M.1.1
  have hb := M.1.2.1
  have hP0 := hP
  have hl : lv_has ls 10 [(0, .ref a), (1, .ref th), (2, .long b), (4, .ref ro)] := hl
  refine lv_aload_n hx hb dX1_done_0 rfl (lv_at hl 0 rfl) ?_
  exact t_callV 0 M (m_failT E h h1 h2) hP (Rc.of cdX1 h) (lw_V q413 q415 qs8 q20 q416) (by decide +kernel) rfl ⟨Nat.le_of_ble_eq_true rfl, Nat.le_of_ble_eq_true rfl⟩ hl.1 rfl (Nat.le_of_ble_eq_true rfl) dX1_done_1 ⟨Nat.le_of_ble_eq_true rfl, Nat.le_of_ble_eq_true rfl⟩ (fun x T L X hP hc => t_out M hlk hout X hP hc (Nat.le_of_ble_eq_true rfl) (Nat.le_of_ble_eq_true rfl))
/-- the sum of a row -/
def vsum : List Int64 → Int64
  | [] => 0
  | v :: r => v + vsum r
theorem vsum_snoc (vs : List Int64) (v : Int64) : vsum (vs ++ [v]) = vsum vs + v := by
  induction vs with
  | nil => show v + 0 = 0 + v; grind
  | cons a r ih => show a + vsum (r ++ [v]) = a + vsum r + v; rw [ih]; grind
/-- y is a box that holds v: one of the cache, or one of our own (tag 7) -/
def BX (ad : Nat → Nat) (w : mm) (y : Nat) (v : Int64) : Prop := w y = some (7, .inr (5, [.long v])) ∨ ∃ k : Nat, k < 256 ∧ y = ad k ∧ v = lcv k
theorem BX.bl {ad : Nat → Nat} {w : mm} {y : Nat} {v : Int64} (h : BX ad w y v) : BL ad w y v := by
  rcases h with h | h
  · exact Or.inl ⟨_, h⟩
  · exact Or.inr h
/-- a list of boxed longs -/
def Rw (ad G : Nat → Nat) (w : mm) (a t te : Nat) (vs : List Int64) : Prop := ∃ (mod : Int32) (e : Nat) (f : Nat → Option Nat), w a = some (t, oL mod e vs.length) ∧ LB1 G w e vs.length te f ∧ ∀ (i : Nat) (v : Int64), vs[i]? = some v → ∃ y : Nat, f i = some y ∧ BX ad w y v
/-- a thing's fields -/
abbrev oH (kd : Int32) (st : Nat) (n : Int32) : va_E := .inr (3, [.int kd, .ref st, .int n])
theorem BL.new {ad : Nat → Nat} {w : mm} {y q : Nat} {v : Int64} {x : Nat × va_E} (h : BL ad w y v) (hq : w q = none) : BL ad (mset w q x) y v := by
  rcases h with ⟨u, h⟩ | h
  · exact Or.inl ⟨u, by rw [mset_ne _ _ (mm_nn h hq)]; exact h⟩
  · exact Or.inr h

set_option maxHeartbeats 4000000 in
set_option maxRecDepth 100000 in
/-- Part.done, when it answers -/
theorem m_done {l : Launch} {s0 : State} {D : va_G} {G ad : Nat → Nat} {w : mm} (E : Bs l s0 D G ad) {a t th tt st ro tr te : Nat} {v b : Int64} {kd nc : Int32} {vs : List Int64} (h : w a = some (t, oP v 0)) (hth : w th = some (tt, oH kd st nc)) (hR : Rw ad G w ro tr te vs) (hlen : vs.length < 2 ^ 20) : Mt l yX1_done cX1_done 10 (some FieldType.long) (rmk 3 2 5 60) [.ref a, .ref th, .long b, .ref ro] s0 D w (Ql s0 D (fun r w1 => r = v + b + vsum vs + (if kd = 3 then nc.toInt64 else 0) ∧ w1 = w)) := by
  refine Met.go E (by decide +kernel) (Nat.le_of_ble_eq_true rfl) (fun p ev s m below meth c ls M hr hlk hnm hl hP => ?_)
  have hx := M.1.1
  have hb := M.1.2.1
  have hl : lv_has ls 10 [(0, .ref a), (1, .ref th), (2, .long b), (4, .ref ro)] := hl
  obtain ⟨mod, e, f, hL, hB, hv⟩ := hR
  refine lv_aload_n hx hb dX1_done_0 rfl (lv_at hl 0 rfl) ?_
  refine c_v (r_runV 0 M (m_fail0 E h) hP (Rc.of cdX1 h) (lw_V q413 q415 qs8 q20 q416) (by decide +kernel) rfl ⟨Nat.le_of_ble_eq_true rfl, Nat.le_of_ble_eq_true rfl⟩ hl.1 rfl (Nat.le_of_ble_eq_true rfl) dX1_done_1 ⟨Nat.le_of_ble_eq_true rfl, Nat.le_of_ble_eq_true rfl⟩) hP (fun w1 H locs hq hP => ?_)
  rw [hq] at hP
  refine lv_aload_n hx hb dX1_done_4 rfl (lv_at hl 0 rfl) ?_
  refine r_get M cdX1 hP h 0 (by decide) q148 (fun _ h9 => h9) rfl dX1_done_5 ?_
  refine lv_lload_n hx hb dX1_done_8 rfl (lv_at hl 2 rfl) ?_
  refine lv_ladd hx hb dX1_done_9 ?_
  refine lv_lstore (lv' := [(5, .long (v + b)), (0, .ref a), (1, .ref th), (2, .long b), (4, .ref ro)]) hx hb dX1_done_10 hl (by decide) rfl (fun ls hl => ?_)
  refine lv_aload hx hb dX1_done_12 (lv_at hl 4 rfl) ?_
  refine c_r (r_runV 0 M (m_iterator E 0 hL) hP (Rc.of cdJ2 hL) (lw_V q474 q475 q476 q15 q477) (by decide +kernel) rfl ⟨Nat.le_of_ble_eq_true rfl, Nat.le_of_ble_eq_true rfl⟩ hl.1 rfl (Nat.le_of_ble_eq_true rfl) dX1_done_14 ⟨Nat.le_of_ble_eq_true rfl, Nat.le_of_ble_eq_true rfl⟩) hP (fun q w1 H locs hq hP => ?_)
  obtain ⟨nq, ew1⟩ := hq
  rw [ew1] at hP
  refine lv_astore (lv' := [(7, .ref q), (5, .long (v + b)), (0, .ref a), (1, .ref th), (2, .long b), (4, .ref ro)]) hx hb dX1_done_17 hl (by decide) rfl (fun ls hl => ?_)
  have hls : vs.length < 2 ^ 20 := hlen
  have loop : ∀ (k i : Nat) (last : Int32) (acc : Int64) (H : Heap) (locs : List Loc) (ls : Array Slot), i + k = vs.length → acc + vsum (vs.drop i) = v + b + vsum vs → Px s0 D (mset w q (0, oT (nI i) last mod ro)) H locs → lv_has ls 10 [(7, .ref q), (5, .long acc), (0, .ref a), (1, .ref th), (2, .long b), (4, .ref ro)] → W p l ev (rmk 3 2 5 60) s m #[Value.ref a, Value.ref th, Value.long b, Value.ref ro] below meth c H locs 2 5 (MQ below (Ql s0 D (fun r w1 => r = v + b + vsum vs + (if kd = 3 then nc.toInt64 else 0) ∧ w1 = w)) #[Value.ref a, Value.ref th, Value.long b, Value.ref ro] s 2 5 (Fr s0)) (F0 m 19 ls []) := by
    intro k
    induction k with
    | zero =>
      intro i last acc H locs ls hik hacc hP hl
      have hT : mset w q (0, oT (nI i) last mod ro) q = some (0, oT (nI i) last mod ro) := mset_self ..
      have hL1 : mset w q (0, oT (nI i) last mod ro) ro = some (tr, oL mod e vs.length) := by rw [mset_ne _ _ (mm_nn hL nq)]; exact hL
      refine lv_aload hx hb dX1_done_19 (lv_at hl 0 rfl) ?_
      refine c5_i (r_runF 0 M cdJ21 (m_hasNext E hL1 hT (by omega) (by omega)) hP (Rc.of cdJ21 hT) q498 q502 q504 q42 q506 (E.face M.2.1 (by decide) q500 q499 q505 q503 q501) (by decide +kernel) rfl ⟨Nat.le_of_ble_eq_true rfl, Nat.le_of_ble_eq_true rfl⟩ hl.1 rfl (Nat.le_of_ble_eq_true rfl) dX1_done_21 ⟨Nat.le_of_ble_eq_true rfl, Nat.le_of_ble_eq_true rfl⟩) hP (fun r w2 H locs hq hP => ?_)
      obtain ⟨er, ew⟩ := hq
      rw [ew] at hP
      rw [er]
      refine lv_if_eq (tgt := 54) hx hb dX1_done_26 (by decide) (fun c1 => ?_) (fun c1 => ?_)
      · have hi : i = vs.length := by omega
        rw [hi, List.drop_length] at hacc
        have hacc : acc = v + b + vsum vs := by rw [← hacc]; show acc = acc + 0; grind
        have hth1 : mset w q (0, oT (nI i) last mod ro) th = some (tt, oH kd st nc) := by rw [mset_ne _ _ (mm_nn hth nq)]; exact hth
        refine lv_aload_n hx hb dX1_done_54 rfl (lv_at hl 3 rfl) ?_
        refine r_getN M cdX3 hP hth1 0 (by decide) (E.fnest M.2.1 q251) (fun _ h9 => h9) rfl dX1_done_55 ?_
        refine lv_iconst (v := 3) hx hb dX1_done_58 (by decide) ?_
        refine lv_icmp_ne (tgt := 73) hx hb dX1_done_59 (by decide) (fun c2 => ?_) (fun c2 => ?_)
        · refine lv_lload hx hb dX1_done_73 (lv_at hl 1 rfl) ?_
          exact r_lret M hr hlk (hP.drop nq) ⟨by rw [if_neg c2, hacc]; grind, rfl⟩ dX1_done_75 (Nat.le_of_ble_eq_true rfl) (Nat.le_of_ble_eq_true rfl)
        · refine lv_lload hx hb dX1_done_62 (lv_at hl 1 rfl) ?_
          refine lv_aload_n hx hb dX1_done_64 rfl (lv_at hl 3 rfl) ?_
          refine r_getN M cdX3 hP hth1 2 (by decide) (E.fnest M.2.1 q255) (fun _ h9 => h9) rfl dX1_done_65 ?_
          refine lv_i2l hx hb dX1_done_68 rfl ?_
          refine lv_ladd hx hb dX1_done_69 ?_
          refine lv_goto (tgt := 75) hx hb dX1_done_70 (by decide) ?_
          exact r_lret M hr hlk (hP.drop nq) ⟨by rw [if_pos c2, hacc], rfl⟩ dX1_done_75 (Nat.le_of_ble_eq_true rfl) (Nat.le_of_ble_eq_true rfl)
      · exact absurd (if_pos (by omega)) c1
    | succ k ih =>
      intro i last acc H locs ls hik hacc hP hl
      have hT : mset w q (0, oT (nI i) last mod ro) q = some (0, oT (nI i) last mod ro) := mset_self ..
      have hL1 : mset w q (0, oT (nI i) last mod ro) ro = some (tr, oL mod e vs.length) := by rw [mset_ne _ _ (mm_nn hL nq)]; exact hL
      refine lv_aload hx hb dX1_done_19 (lv_at hl 0 rfl) ?_
      refine c5_i (r_runF 0 M cdJ21 (m_hasNext E hL1 hT (by omega) (by omega)) hP (Rc.of cdJ21 hT) q498 q502 q504 q42 q506 (E.face M.2.1 (by decide) q500 q499 q505 q503 q501) (by decide +kernel) rfl ⟨Nat.le_of_ble_eq_true rfl, Nat.le_of_ble_eq_true rfl⟩ hl.1 rfl (Nat.le_of_ble_eq_true rfl) dX1_done_21 ⟨Nat.le_of_ble_eq_true rfl, Nat.le_of_ble_eq_true rfl⟩) hP (fun r w2 H locs hq hP => ?_)
      obtain ⟨er, ew⟩ := hq
      rw [ew] at hP
      rw [er]
      refine lv_if_eq (tgt := 54) hx hb dX1_done_26 (by decide) (fun c1 => ?_) (fun c1 => ?_)
      · exact absurd (c1.symm.trans (if_neg (by omega))) (by decide)
      · have hi : i < vs.length := by omega
        obtain ⟨y, hfi, hbl⟩ := hv i vs[i] (List.getElem?_eq_getElem hi)
        have hbl := hbl.bl
        rcases hB with ⟨-, hz⟩ | ⟨cap, g1, g2, g3, he⟩
        · omega
        have he1 : mset w q (0, oT (nI i) last mod ro) e = some (te, eO G cap f) := by rw [mset_ne _ _ (mm_nn he nq)]; exact he
        refine lv_aload hx hb dX1_done_29 (lv_at hl 0 rfl) ?_
        refine c5_r (r_runF 0 M cdJ21 (m_next E hL1 hT he1 hi g1 g2 hfi) hP (Rc.of cdJ21 hT) q508 q511 q513 q42 q515 (E.face M.2.1 (by decide) q510 q509 q514 q512 q501) (by decide +kernel) rfl ⟨Nat.le_of_ble_eq_true rfl, Nat.le_of_ble_eq_true rfl⟩ hl.1 rfl (Nat.le_of_ble_eq_true rfl) dX1_done_31 ⟨Nat.le_of_ble_eq_true rfl, Nat.le_of_ble_eq_true rfl⟩) hP (fun r w3 H locs hq hP => ?_)
        obtain ⟨er, ew⟩ := hq
        rw [ew, mset_mset] at hP
        rw [er]
        have hbl2 : BL ad (mset w q (0, oT (nI (i + 1)) (nI i) mod ro)) y vs[i] := hbl.new nq
        refine r_cast M hP cdJ9 (hbl2.rc E) q520 dX1_done_36 ?_
        refine c_l (r_runV 0 M (m_longValue E hbl2) hP (hbl2.rc E) (lw_V q521 q522 q523 q25 q524) (by decide +kernel) rfl ⟨Nat.le_of_ble_eq_true rfl, Nat.le_of_ble_eq_true rfl⟩ hl.1 rfl (Nat.le_of_ble_eq_true rfl) dX1_done_39 ⟨Nat.le_of_ble_eq_true rfl, Nat.le_of_ble_eq_true rfl⟩) hP (fun r w4 H locs hq hP => ?_)
        obtain ⟨er, ew⟩ := hq
        rw [ew] at hP
        rw [er]
        refine lv_lstore (lv' := [(8, .long vs[i]), (7, .ref q), (5, .long acc), (0, .ref a), (1, .ref th), (2, .long b), (4, .ref ro)]) hx hb dX1_done_42 hl (by decide) rfl (fun ls hl => ?_)
        refine lv_lload hx hb dX1_done_44 (lv_at hl 2 rfl) ?_
        refine lv_lload hx hb dX1_done_46 (lv_at hl 0 rfl) ?_
        refine lv_ladd hx hb dX1_done_48 ?_
        refine lv_lstore (lv' := [(5, .long (acc + vs[i])), (8, .long vs[i]), (7, .ref q), (0, .ref a), (1, .ref th), (2, .long b), (4, .ref ro)]) hx hb dX1_done_49 hl (by decide) rfl (fun ls hl => ?_)
        refine lv_goto (tgt := 19) hx hb dX1_done_51 (by decide) ?_
        have hl := lv_sub (l' := [(7, .ref q), (5, .long (acc + vs[i])), (0, .ref a), (1, .ref th), (2, .long b), (4, .ref ro)]) hl [2, 0, 3, 4, 5, 6] rfl
        exact ih (i + 1) (nI i) _ H locs ls (by omega) (by rw [← hacc, List.drop_eq_getElem_cons hi]; show acc + vs[i] + vsum (vs.drop (i + 1)) = acc + (vs[i] + vsum (vs.drop (i + 1))); grind) hP hl
  have hl := lv_sub (l' := [(7, .ref q), (5, .long (v + b)), (0, .ref a), (1, .ref th), (2, .long b), (4, .ref ro)]) hl [0, 1, 2, 3, 4, 5] rfl
  exact loop vs.length 0 (-1) (v + b) H locs ls (by omega) (by rw [List.drop_zero]) hP hl
end
section
/-! ===== catching, its rows resolved on the way; methods with handlers ===== -/
theorem fd_row {Q : Handler → Pre} {E : CtlPost} {e : Env} {d : Bool} {acts : List Action} {s : State} {f : JFrame} {a : Addr} {x : ExceptionTableEntry} {t : List ExceptionTableEntry} {c : ClassId} {cell : Cell} (hx : covers x f.pc = true) (h0 : x.catchType ≠ 0) (hl : s.vm.ClassLinks e.platform f.method.cls x.catchType c) (hcell : s.heap[a]? = some cell) (hobj : ∀ k, cell.vm ≠ .statics k) (hk : ∃ k, s.vm.classes[cell.cls]? = some k) (hc : ∃ k, s.vm.classes[c]? = some k) {b : Bool} (hfit : s.vm.assignable cell.cls c = b) :
    wp (findHandler.go f a (x :: t)) Q E e d acts s ↔ if b = true then Q (.found x.handlerPc) d acts (s.setVm (s.vm.noted f.method.cls x.catchType (.cls c))) else wp (findHandler.go f a t) Q E e d acts (s.setVm (s.vm.noted f.method.cls x.catchType (.cls c))) := by
  simp only [covers] at hx
  obtain ⟨ha, ht⟩ := (resolveClass_links e.toSetting hl).op (op := VmOp.resolveClass f.method.cls x.catchType) rfl
  have hal : s.vm.Alike (s.vm.noted f.method.cls x.catchType (.cls c)) := (Vm.Alike.refl s.vm).noted _ _ _
  obtain ⟨k1, hk1⟩ := hk
  obtain ⟨k2, hk2⟩ := hc
  obtain ⟨k1', hk1', -⟩ := hal.2.2 _ _ hk1
  obtain ⟨k2', hk2', -⟩ := hal.2.2 _ _ hk2
  have hfit' : (s.vm.noted f.method.cls x.catchType (.cls c)).assignable cell.cls c = b := by rw [hal.assignable]; exact hfit
  cases b <;> simp [findHandler.go, hx, h0, ha, ht, hcell, hobj, hk1', hk2', hfit', VmOp.dirties, VmOp.acts]
theorem fd_through {e : Env} {s0 : State} {f : JFrame} {a : Addr} {cell : Cell} (hobj : ∀ k, cell.vm ≠ .statics k) (hk0 : ∃ k, s0.vm.classes[cell.cls]? = some k) (x : ExceptionTableEntry) (rest : List ExceptionTableEntry) (hx : covers x f.pc = true) (h0 : x.catchType ≠ 0) {cx : ClassId} (hlx : s0.vm.ClassLinks e.platform f.method.cls x.catchType cx) (hfit : s0.vm.assignable cell.cls cx = true) :
    ∀ (pre : List ExceptionTableEntry) (S : State), s0.WarmedH S.vm → S.heap[a]? = some cell → (∀ y ∈ pre, covers y f.pc = true ∧ y.catchType ≠ 0 ∧ ∃ c, s0.vm.ClassLinks e.platform f.method.cls y.catchType c ∧ s0.vm.assignable cell.cls c = false) →
      ∃ vm', s0.WarmedH vm' ∧ ∀ (Q : Handler → Pre) (E : CtlPost) (d : Bool) (acts : List Action), wp (findHandler.go f a (pre ++ x :: rest)) Q E e d acts S ↔ Q (.found x.handlerPc) d acts (S.setVm vm') := by
  obtain ⟨k0, hk0⟩ := hk0
  intro pre
  induction pre with
  | nil =>
    intro S hW hcell _
    obtain ⟨k0', hk0', -⟩ := hW.alike.2.2 _ _ hk0
    obtain ⟨dk, _, _, kt, hd, _, _, _, _, hkt, _, hopen⟩ := hlx.here
    obtain ⟨kt', hkt', -⟩ := hW.alike.2.2 _ _ hkt
    refine ⟨_, hW.noted hd hopen (State.rightAt_cls hlx), fun Q E d acts => ?_⟩
    rw [List.nil_append, fd_row hx h0 (hW.classLinks hlx) hcell hobj ⟨k0', hk0'⟩ ⟨kt', hkt'⟩ (b := true) (by rw [hW.alike.assignable]; exact hfit), if_pos rfl]
  | cons y ys ih =>
    intro S hW hcell hpass
    obtain ⟨k0', hk0', -⟩ := hW.alike.2.2 _ _ hk0
    obtain ⟨hy, hy0, c, hl, hno⟩ := hpass y List.mem_cons_self
    obtain ⟨dk, _, _, kt, hd, _, _, _, _, hkt, _, hopen⟩ := hl.here
    obtain ⟨kt', hkt', -⟩ := hW.alike.2.2 _ _ hkt
    obtain ⟨vm', hW', hq⟩ := ih (S.setVm (S.vm.noted f.method.cls y.catchType (.cls c))) (hW.noted hd hopen (State.rightAt_cls hl)) hcell (fun z hz => hpass z (List.mem_cons_of_mem _ hz))
    refine ⟨vm', hW', fun Q E d acts => ?_⟩
    rw [List.cons_append, fd_row hy hy0 (hW.classLinks hl) hcell hobj ⟨k0', hk0'⟩ ⟨kt', hkt'⟩ (b := false) (by rw [hW.alike.assignable]; exact hno), if_neg (by decide)]
    exact hq Q E d acts
theorem fd_step {e : Env} {s : State} {a : Addr} {f : JFrame} {r : List Frame} {pc : Nat} {vm' : Vm} (hfind : ∀ (Q : Handler → Pre) (E : CtlPost) (d : Bool) (acts : List Action), wp (findHandler f a) Q E e d acts s ↔ Q (.found pc) d acts (s.setVm vm')) :
    (stepThrowing e s a (.java f :: r)).Is ((s.setVm vm').setFrames (.java { f with pc := pc, stack := [.ref a] } :: r)) [] := by
  simp only [stepThrowing, searchFrame, vmDo]
  generalize hr : Sem.go _ e false [] s = res
  obtain ⟨as, rfl, ha⟩ := Sem.eq_ok_of hr (a := Handler.found pc) (s' := s.setVm vm') (acts' := []) (by simp [hfind _ _ _ _])
  exact ⟨rfl, ha⟩
theorem fd_caught {tb : Tables} {e : Env} {s target : State} {g : JFrame} {c : Code} {below : List Frame} {a : Addr} (h : At s g.method c below) {pc : Nat} {vm' : Vm}
    (hfind : ∀ (Q : Handler → Pre) (E : CtlPost) (d : Bool) (acts : List Action), wp (findHandler g a) Q E e d acts ((s.setTop g).pushFrame (.throwing a)) ↔ Q (.found pc) d acts (((s.setTop g).pushFrame (.throwing a)).setVm vm')) (hrest : Steps tb e below ((s.setVm vm').setTop { g with pc := pc, stack := [.ref a] }) target) :
    Steps tb e below ((s.setTop g).pushFrame (.throwing a)) target := by
  obtain ⟨hgo, hw⟩ := h.throwing a
  refine Steps.head hgo hw ?_
  rw [stepThread_throwing (frames_entered h.top _), (fd_step (s := (s.setTop g).pushFrame (.throwing a)) hfind).1]
  obtain ⟨g₀, hg⟩ := Option.isSome_iff_exists.mp h.top
  obtain ⟨r, hr⟩ := State.topJava?_eq_some.mp hg
  have hr' : (s.setVm vm').frames = .java g₀ :: r := hr
  rw [State.setTop_of_frames _ hr'] at hrest
  have e1 : ∀ (u : State) (F K : List Frame), ((u.setFrames F).setVm vm').setFrames K = (u.setVm vm').setFrames K := fun u F K => by
    rw [show (u.setFrames F).setVm vm' = (u.setVm vm').setFrames F from rfl, State.setFrames_setFrames]
  rw [hr, List.tail_cons, State.pushFrame, e1, State.setTop_of_frames _ hr, e1]
  exact hrest
/-- no object of A can be taken for a B -/
def NC (s0 : State) (A B : String) : Prop := ∀ a b : ClassId, s0.vm.findClass A = some a → s0.vm.findClass B = some b → s0.vm.assignable a b = false
theorem NC.of {l : Launch} {s0 : State} {D : va_G} {G ad : Nat → Nat} (E : Bs l s0 D G ad) {A B : String} (h : Cond.not (.castable A B) ∈ flatC (Jvm.Cond.and given_1 narrow_1)) : NC s0 A B := by
  obtain ⟨b, -, hn⟩ := E.2.1
  have h1 := Cond.holds_not_iff.mp (flat_of_before _ hn _ h)
  intro a c ha hc
  simp only [Cond.value, ha, hc] at h1
  exact Option.some.inj h1
/-- the table of 'tried' -/
abbrev trH : List (Nat × Nat × Nat × Nat) := [(0, 16, 17, 94), (0, 16, 27, 97), (0, 16, 37, 99), (0, 16, 47, 101), (0, 16, 57, 103), (0, 16, 67, 105)]
/-- what its rows take -/
def rwN : Nat → String
  | 1 => "java/lang/ArithmeticException"
  | 2 => "java/lang/ArrayIndexOutOfBoundsException"
  | 3 => "java/lang/NegativeArraySizeException"
  | 4 => "java/lang/IllegalStateException"
  | 5 => "java/lang/IllegalArgumentException"
  | _ => "java/lang/UnsupportedOperationException"
section TK
variable {p : Program} {l : Launch} {e : Env} {R : Room} {s : State} {m : MethodId} {args : Array Value} {below : List Frame} {meth : Method} {c : Code} {H : Heap} {locs : List Loc} {cells slots : Nat} {Q : State → Prop}
variable {cc : ByteArray} {nL : Nat} {own : String} {s0 : State} {D : va_G} {G ad : Nat → Nat} {w : mm} {pc : Nat} {ls : Array Slot} {rest st0 : List Value}
theorem t_catch (M : Mx p m c cc nL s args own s0 D G) (E : Bs l s0 D G ad) {T : State} (X : Stand p l e R s m args below meth c T locs cells slots) {x : Nat} {cls n : String} (hc : ∃ cell : Cell, T.heap[x]? = some cell ∧ cell.vm = .none ∧ s0.vm.findClass cls = some cell.cls)
    (pre : List ExceptionTableEntry) (y : ExceptionTableEntry) (rs : List ExceptionTableEntry) (hsplit : c.exceptionTable.toList = pre ++ y :: rs) (hpre : ∀ z ∈ pre, covers z pc = true ∧ z.catchType ≠ 0 ∧ ∃ k : String, Cond.classLink own z.catchType k ∈ lw_all ∧ NC s0 cls k) (hy : covers y pc = true) (h0 : y.catchType ≠ 0) (hl : Cond.classLink own y.catchType n ∈ lw_all) (hcast : Cond.castable cls n ∈ lw_tbl)
    (kk : W p l e R s m args below meth c T.heap locs cells slots Q (F0 m y.handlerPc ls [.ref x])) : ∃ t, Steps p.tables e below ((T.setTop (F0 m pc ls rest)).pushFrame (.throwing x)) t ∧ Q t := by
  obtain ⟨cell, h1, h2, h3⟩ := hc
  have hpl : e.platform.magicAccessors = ({} : Platform).magicAccessors := by rw [X.admits.platform]
  have hts := M.1.2.2.2.2
  have hown := M.1.2.2.2.1
  have hal := M.2.1.alike
  have fcls : s.vm.findClass cls = some cell.cls := by rw [hal.findClass]; exact h3
  obtain ⟨cn, hcn, hln⟩ := Cond.classLink_spec hown (hts _ hl) e.platform hpl
  have hfit : s.vm.assignable cell.cls cn = true := vb_asgC (E.cast M.2.1 hcast) _ _ hcn fcls
  obtain ⟨vm', hW', hq⟩ := fd_through (e := e) (s0 := s) (f := F0 m pc ls rest) (a := x) (cell := cell) (fun k h => by rw [h2] at h; cases h) (Vm.classAt_of_findClass fcls) y rs hy h0 hln hfit pre ((T.setTop (F0 m pc ls rest)).pushFrame (.throwing x)) X.warmed h1 (fun z hz => by
    obtain ⟨g1, g2, k, g3, g4⟩ := hpre z hz
    obtain ⟨ck, hck, hlk⟩ := Cond.classLink_spec hown (hts _ g3) e.platform hpl
    refine ⟨g1, g2, ck, hlk, ?_⟩
    rw [hal.assignable]
    exact g4 _ _ h3 (by rw [← hal.findClass]; exact hck))
  obtain ⟨t, a1, b1⟩ := kk (T.setVm vm') rfl (X.noted hW')
  refine ⟨t, fd_caught (g := F0 m pc ls rest) (vm' := vm') (pc := y.handlerPc) X.here (fun Q E d acts => ?_) a1, b1⟩
  rw [Jvm.W.findHandler_eq (s := (T.setTop (F0 m pc ls rest)).pushFrame (.throwing x)) (f := F0 m pc ls rest) (meth := meth) (code := c) X.method' X.code, hsplit]
  exact hq Q E d acts
set_option maxRecDepth 100000 in
/-- what a part throws is caught in 'tried', at its row -/
theorem t_tried (M : Mx p m c cc nL s args "MainframeDesk" s0 D G) (E : Bs l s0 D G ad) (htab : c.exceptionTable.toList = tableOf trH) {T : State} (X : Stand p l e R s m args below meth c T locs cells slots) {x k : Nat} (k1 : 1 ≤ k) (k6 : k ≤ 6) (hc : ∃ cell : Cell, T.heap[x]? = some cell ∧ cell.vm = .none ∧ s0.vm.findClass (exN k) = some cell.cls)
    (kk : W p l e R s m args below meth c T.heap locs cells slots Q (F0 m (7 + 10 * k) ls [.ref x])) : ∃ t, Steps p.tables e below ((T.setTop (F0 m 13 ls rest)).pushFrame (.throwing x)) t ∧ Q t := by
  have hk : k = 1 ∨ k = 2 ∨ k = 3 ∨ k = 4 ∨ k = 5 ∨ k = 6 := by omega
  rcases hk with rfl | rfl | rfl | rfl | rfl | rfl
  · exact t_catch (cls := "java/lang/ArithmeticException") (n := "java/lang/ArithmeticException") M E X hc [] ⟨0, 16, 17, 94⟩ [⟨0, 16, 27, 97⟩, ⟨0, 16, 37, 99⟩, ⟨0, 16, 47, 101⟩, ⟨0, 16, 57, 103⟩, ⟨0, 16, 67, 105⟩] htab (fun z hz => by cases hz) (by decide) (by decide) q295 q346 kk
  · exact t_catch (cls := "java/lang/ArrayIndexOutOfBoundsException") (n := "java/lang/ArrayIndexOutOfBoundsException") M E X hc [⟨0, 16, 17, 94⟩] ⟨0, 16, 27, 97⟩ [⟨0, 16, 37, 99⟩, ⟨0, 16, 47, 101⟩, ⟨0, 16, 57, 103⟩, ⟨0, 16, 67, 105⟩] htab (fun z hz => by
      simp only [List.mem_cons, List.not_mem_nil, or_false] at hz
      rcases hz with rfl
      · exact ⟨by decide, by decide, _, q295, NC.of E (A := "java/lang/ArrayIndexOutOfBoundsException") (by decide +kernel)⟩) (by decide) (by decide) q369 q384 kk
  · exact t_catch (cls := "java/lang/NegativeArraySizeException") (n := "java/lang/NegativeArraySizeException") M E X hc [⟨0, 16, 17, 94⟩, ⟨0, 16, 27, 97⟩] ⟨0, 16, 37, 99⟩ [⟨0, 16, 47, 101⟩, ⟨0, 16, 57, 103⟩, ⟨0, 16, 67, 105⟩] htab (fun z hz => by
      simp only [List.mem_cons, List.not_mem_nil, or_false] at hz
      rcases hz with rfl | rfl
      · exact ⟨by decide, by decide, _, q295, NC.of E (A := "java/lang/NegativeArraySizeException") (by decide +kernel)⟩
      · exact ⟨by decide, by decide, _, q369, NC.of E (A := "java/lang/NegativeArraySizeException") (by decide +kernel)⟩) (by decide) (by decide) q388 q400 kk
  · exact t_catch (cls := "MainframeDesk$Part$Stuck") (n := "java/lang/IllegalStateException") M E X hc [⟨0, 16, 17, 94⟩, ⟨0, 16, 27, 97⟩, ⟨0, 16, 37, 99⟩] ⟨0, 16, 47, 101⟩ [⟨0, 16, 57, 103⟩, ⟨0, 16, 67, 105⟩] htab (fun z hz => by
      simp only [List.mem_cons, List.not_mem_nil, or_false] at hz
      rcases hz with rfl | rfl | rfl
      · exact ⟨by decide, by decide, _, q295, NC.of E (A := "MainframeDesk$Part$Stuck") (by decide +kernel)⟩
      · exact ⟨by decide, by decide, _, q369, NC.of E (A := "MainframeDesk$Part$Stuck") (by decide +kernel)⟩
      · exact ⟨by decide, by decide, _, q388, NC.of E (A := "MainframeDesk$Part$Stuck") (by decide +kernel)⟩) (by decide) (by decide) q402 q659 kk
  · exact t_catch (cls := "java/lang/IllegalArgumentException") (n := "java/lang/IllegalArgumentException") M E X hc [⟨0, 16, 17, 94⟩, ⟨0, 16, 27, 97⟩, ⟨0, 16, 37, 99⟩, ⟨0, 16, 47, 101⟩] ⟨0, 16, 57, 103⟩ [⟨0, 16, 67, 105⟩] htab (fun z hz => by
      simp only [List.mem_cons, List.not_mem_nil, or_false] at hz
      rcases hz with rfl | rfl | rfl | rfl
      · exact ⟨by decide, by decide, _, q295, NC.of E (A := "java/lang/IllegalArgumentException") (by decide +kernel)⟩
      · exact ⟨by decide, by decide, _, q369, NC.of E (A := "java/lang/IllegalArgumentException") (by decide +kernel)⟩
      · exact ⟨by decide, by decide, _, q388, NC.of E (A := "java/lang/IllegalArgumentException") (by decide +kernel)⟩
      · exact ⟨by decide, by decide, _, q402, NC.of E (A := "java/lang/IllegalArgumentException") (by decide +kernel)⟩) (by decide) (by decide) q403 q446 kk
  · exact t_catch (cls := "java/lang/UnsupportedOperationException") (n := "java/lang/UnsupportedOperationException") M E X hc [⟨0, 16, 17, 94⟩, ⟨0, 16, 27, 97⟩, ⟨0, 16, 37, 99⟩, ⟨0, 16, 47, 101⟩, ⟨0, 16, 57, 103⟩] ⟨0, 16, 67, 105⟩ [] htab (fun z hz => by
      simp only [List.mem_cons, List.not_mem_nil, or_false] at hz
      rcases hz with rfl | rfl | rfl | rfl | rfl
      · exact ⟨by decide, by decide, _, q295, NC.of E (A := "java/lang/UnsupportedOperationException") (by decide +kernel)⟩
      · exact ⟨by decide, by decide, _, q369, NC.of E (A := "java/lang/UnsupportedOperationException") (by decide +kernel)⟩
      · exact ⟨by decide, by decide, _, q388, NC.of E (A := "java/lang/UnsupportedOperationException") (by decide +kernel)⟩
      · exact ⟨by decide, by decide, _, q402, NC.of E (A := "java/lang/UnsupportedOperationException") (by decide +kernel)⟩
      · exact ⟨by decide, by decide, _, q403, NC.of E (A := "java/lang/UnsupportedOperationException") (by decide +kernel)⟩) (by decide) (by decide) q404 q461 kk
theorem r_runVW (n : Nat) (M : Mx p m c cc nL s args own s0 D G) {y : MethodName} {bytes : ByteArray} {maxL index b : Nat} {ret : Option FieldType} {hh : List (Nat × Nat × Nat × Nat)} {rm : Room} {Qc : Array Value → State → Outcome → State → Prop} {As : List Value} {C : String} (hM : Met l y (wsW_ y bytes maxL ret hh) rm (va_Pc (.ref b :: As) (Cx s0 D w)) Qc rm.cells rm.slots (Fr s0)) (hP : Px s0 D w H locs) (hr : Rc s0 w b C) (hG : GoodIn lw_all (wsV own index C y (wsW_ y bytes maxL ret hh)))
    (hd : y.cls = C ∧ y.cls ≠ "java/lang/invoke/MethodHandle" ∧ y.cls ≠ "java/lang/invoke/VarHandle" ∧ (parseMethodDescriptor y.desc).map (fun d => d.parameters.length) = some n) (hn : As.length = n) (hR : rm.frames + 1 ≤ R.frames ∧ 8 + (maxL + 11) + rm.locals ≤ R.locals) (hsz : ls.size = nL) (hst : st0 = As.reverse ++ .ref b :: rest) (hW8 : (rest.map fun v => v.category).sum ≤ 8) (hdg : decode cc pc = .ok (.invokevirtual index, 3)) (hf : cells + rm.cells ≤ R.cells ∧ slots + rm.slots ≤ R.slots) :
    va_Run p l e R s m args below meth c H locs cells slots rm.cells rm.slots (F0 m pc ls st0) rest (Qc (Value.ref b :: As).toArray) (Fr s0) := by
  obtain ⟨hx, hb, hml, hown, hts⟩ := M.1
  have ok : ∀ z ∈ wsV own index C y (wsW_ y bytes maxL ret hh), z.before args s = true := fun z h => hts z (hG z h).1
  have hGw : GoodIn lw_all (wsW_ y bytes maxL ret hh) := fun z h => hG z (by unfold wsV; exact List.mem_append_right _ h)
  have hl : (Cond.methodLink own index y).before args s = true := ok _ (by simp [wsV])
  have hin : (Cond.instanceMethod y).before args s = true := ok _ (by simp [wsV])
  have hse : (Cond.selects C y y).before args s = true := ok _ (by simp [wsV])
  have hini : (Cond.initialized y.cls).before args s = true := by rw [hd.1]; exact ok _ (by simp [wsV])
  have hcode : (Cond.codeWith y bytes maxL ret hh).before args s = true := hts _ (hGw _ List.mem_cons_self).1
  have hK : Back l R p e below s args y 3 8 (PreOf R rm.cells rm.slots (va_Pc (.ref b :: As) (Cx s0 D w))) (PostOf Qc rm.cells rm.slots (Fr s0)) := va_backW (hh := hh) (bytes := bytes) (maxL := maxL) (ret := ret) hM Cx.blind rfl rfl hR.1 hR.2 (pay_in hts hGw) List.mem_cons_self (fun a' U hW => word_at hW (Or.inl (by first | rfl | simp [Cond.onTables, Cond.keeps, Cond.steady])) hini)
  obtain ⟨cellB, hcB, hoB, hclB⟩ := hr.cell M hP
  intro T hT X
  obtain ⟨mk, methM, hnamed, hmethM, hstM, habM⟩ := Cond.instanceMethod_spec hin
  obtain ⟨mk', methM', cM, hnamed', hmethM', -, -, -, -, -, -, hsigM⟩ := Cond.codeWith_spec hcode
  cases hnamed.symm.trans hnamed'
  cases hmethM.symm.trans hmethM'
  obtain ⟨c2, r2, m2, q1, q2, q3, q4, kP, hkP, hkPi⟩ := Cond.selects_spec hse
  cases hclB.symm.trans q1
  cases (State.methodFound?_of_named hnamed ⟨hd.2.1, hd.2.2.1⟩).symm.trans q2
  cases hnamed.symm.trans q3
  have hselP : selectMethod e.platform s.vm cellB.cls mk = .method mk := by rw [Launch.admits_selectMethod X.admits]; exact q4
  have hlen : n = methM.sig.parameters.length := by
    have h2 := hd.2.2.2
    rw [hsigM] at h2
    exact (Option.some.inj h2).symm
  obtain ⟨vm1, X1, hstep⟩ := X.invokevirtual hx hown hl hnamed hmethM hstM hkP hkPi ⟨hd.2.1, hd.2.2.1⟩ (a := b) (cell := cellB) (by rw [hT]; exact hcB)
    (fun z h => by rw [h] at hoB; cases hoB) hselP hmethM habM hkP hkPi (g := F0 m pc ls st0) rfl (argsL := As) (rest := rest) (hn.trans hlen) hst (by rw [hb]; exact hdg)
  obtain ⟨v, ⟨U', l2, c2, s2⟩, X', ⟨g', mk2, t, L, e1, e2, hq, h1, hL, h2, h3⟩, hsteps⟩ := hK m meth c ⟨T.setVm vm1, locs, cells, slots⟩ { F0 m pc ls st0 with stack := rest } (.invokevirtual index) mk (Value.ref b :: As).toArray X1 rfl (by rw [hml]; exact hsz) (by rw [hb]; exact hdg) (lv_room hW8) (X1.named hnamed) ⟨hf.1, hf.2, hP.pre M (T.setVm vm1) hT X1.warmed⟩
  dsimp only [Pt.U, Pt.locs, Pt.cells, Pt.slots] at X' e1 e2 h1 h2 h3 hsteps
  subst h1; subst h2; subst h3
  exact ⟨v, (T.setVm vm1).calling g' mk2 (Value.ref b :: As).toArray, t, U', L, hT, X', hL, e1, e2, hq, fun target h => hstep _ fun acts => by rw [doInvoke_state]; exact hsteps.trans h⟩
end TK
/-- how the contract of a method with handlers begins -/
theorem Met.goW {l : Launch} {s0 : State} {D : va_G} {G ad : Nat → Nat} (E : Bs l s0 D G ad) {y : MethodName} {cc : ByteArray} {maxL : Nat} {ret : Option FieldType} {hh : List (Nat × Nat × Nat × Nat)} {rm : Room} {av : List Value} {w : mm} {Qc : Array Value → State → Outcome → State → Prop} (hy : plainName y.cls = true) (hn : (lg_sl av).length ≤ maxL)
    (body : ∀ (p : Program) (e : Env) (s : State) (m : MethodId) (below : List Frame) (meth : Method) (c : Code) (ls : Array Slot), Mx p m c cc maxL s av.toArray y.cls s0 D G → meth.sig.returnType = ret → meth.locks = false → c.exceptionTable.toList = tableOf hh → lv_has ls maxL (lv_args 0 av) → Px s0 D w s.heap [] →
      W p l e rm s m av.toArray below meth c s.heap [] 0 0 (MQ below Qc av.toArray s rm.cells rm.slots (Fr s0)) (F0 m 0 ls [])) : Met l y (wsW_ y cc maxL ret hh) rm (va_Pc av (Cx s0 D w)) Qc rm.cells rm.slots (Fr s0) := by
  refine va_MetW (cc := cc) (maxL := maxL) (ret := ret) (hh := hh) hy rfl ?_
  intro p e s m args below meth c s₁ B hml hv
  obtain ⟨rfl, hC⟩ := hv
  have hts := atoms_spec (ws := wsW_ y cc maxL ret hh) B.pre
  obtain ⟨m9, meth9, c9, hn9, h1, h2, h3, h4, h5, -⟩ := Cond.codeWith_spec (hts _ List.mem_cons_self)
  cases B.named.symm.trans hn9
  cases B.method.symm.trans h1
  cases (Stand.of_body B).code.symm.trans h2
  have htab : c.exceptionTable.toList = tableOf hh := by rw [← h5]; exact (table_eq _).symm
  have hts : ∀ w ∈ lw_all, w.before _ s = true := fun w h => hts w (List.mem_cons_of_mem _ h)
  have hl := lv_entry av (n := maxL) hn
  rw [lg_entry_eq]
  exact body p e s m below meth c _ ⟨⟨B.exec, B.bytes, hml, findClass_of_methodNamed B.named, hts⟩, hC.1, va_K.moved hC.1.alike E.K⟩ B.returns B.notSynchronized htab hl hC.2
end
section
/-! ===== pictures: the desk and the model of one abstract state ===== -/
theorem BX.kp {ad : Nat → Nat} {w w1 : mm} {y : Nat} {v : Int64} {S : Nat → Prop} (h : BX ad w y v) (hk : Kp S w w1) (h7 : S 7) : BX ad w1 y v := by
  rcases h with h | h
  · exact Or.inl (hk _ _ _ h h7)
  · exact Or.inr h
theorem LB1.kp {G : Nat → Nat} {w w1 : mm} {e n te : Nat} {f : Nat → Option Nat} {S : Nat → Prop} (h : LB1 G w e n te f) (hk : Kp S w w1) (ht : S te) : LB1 G w1 e n te f := by
  rcases h with h | ⟨cap, h1, h2, h3, h4⟩
  · exact Or.inl h
  · exact Or.inr ⟨cap, h1, h2, h3, hk _ _ _ h4 ht⟩
theorem Rw.kp {ad G : Nat → Nat} {w w1 : mm} {a t te : Nat} {vs : List Int64} {S : Nat → Prop} (h : Rw ad G w a t te vs) (hk : Kp S w w1) (ht : S t) (hte : S te) (h7 : S 7) : Rw ad G w1 a t te vs := by
  obtain ⟨mod, e, f, h1, h2, h3⟩ := h
  refine ⟨mod, e, f, hk _ _ _ h1 ht, h2.kp hk hte, fun i v hv => ?_⟩
  obtain ⟨y, g1, g2⟩ := h3 i v hv
  exact ⟨y, g1, g2.kp hk h7⟩
/-- a list of things, the i-th at ya i -/
def ThL (G : Nat → Nat) (w : mm) (tl n : Nat) (kd : Nat → Int32) (th : Nat → Bool) (ca ya : Nat → Nat) : Prop := ∃ (mod : Int32) (e : Nat) (f : Nat → Option Nat), w tl = some (2, oL mod e n) ∧ LB1 G w e n 3 f ∧ ∀ i, i < n → f i = some (ya i) ∧ ∃ st : Nat, w (ya i) = some (1000 + i, oH (kd i) st (nI (ca i))) ∧ (th i = true ↔ st = G 6)
theorem ThL.kp {G : Nat → Nat} {w w1 : mm} {tl n : Nat} {kd : Nat → Int32} {th : Nat → Bool} {ca ya : Nat → Nat} {S : Nat → Prop} (h : ThL G w tl n kd th ca ya) (hk : Kp S w w1) (hS : ∀ t, t = 2 ∨ t = 3 ∨ 1000 ≤ t → S t) : ThL G w1 tl n kd th ca ya := by
  obtain ⟨mod, e, f, h1, h2, h3⟩ := h
  refine ⟨mod, e, f, hk _ _ _ h1 (hS _ (by omega)), h2.kp hk (hS _ (by omega)), fun i hi => ?_⟩
  obtain ⟨g1, st, g2, g3⟩ := h3 i hi
  exact ⟨g1, st, hk _ _ _ g2 (hS _ (by omega)), g3⟩
theorem va_up_same {α : Type} (f : Nat → α) (k : Nat) : va_up f k (f k) = f := by
  funext j
  by_cases h : j = k
  · rw [h, va_up_self]
  · rw [va_up_ne _ _ h]
/-- a thing is otherwise now -/
theorem ThL.put {G : Nat → Nat} {w : mm} {tl n i st c : Nat} {kd : Nat → Int32} {th : Nat → Bool} {ca ya : Nat → Nat} {b : Bool} (h : ThL G w tl n kd th ca ya) (hin : i < n) (hb : b = true ↔ st = G 6) : ThL G (mset w (ya i) (1000 + i, oH (kd i) st (nI c))) tl n kd (va_up th i b) (va_up ca i c) ya := by
  obtain ⟨mod, e, f, h1, h2, h3⟩ := h
  obtain ⟨g1, st0, g2, g3⟩ := h3 i hin
  have hk : Kp (fun t => t ≠ 1000 + i) w (mset w (ya i) (1000 + i, oH (kd i) st (nI c))) := Kp.put g2 (fun q => q rfl)
  refine ⟨mod, e, f, hk _ _ _ h1 (by omega), h2.kp hk (by omega), fun j hj => ?_⟩
  by_cases hji : j = i
  · subst hji
    exact ⟨g1, st, by rw [va_up_self]; exact mset_self .., by rw [va_up_self]; exact hb⟩
  · obtain ⟨q1, st1, q2, q3⟩ := h3 j hj
    exact ⟨q1, st1, by rw [va_up_ne _ _ hji]; exact hk _ _ _ q2 (by omega), by rw [va_up_ne _ _ hji]; exact q3⟩
/-- a thing more -/
theorem ThL.add {G : Nat → Nat} {w w1 : mm} {tl n y : Nat} {kd : Nat → Int32} {th : Nat → Bool} {ca ya : Nat → Nat} {q mod : Int32} {f : Nat → Option Nat} (h3 : ∀ i, i < n → f i = some (ya i) ∧ ∃ st : Nat, w (ya i) = some (1000 + i, oH (kd i) st (nI (ca i))) ∧ (th i = true ↔ st = G 6)) (hy : w y = some (1000 + n, oH q (G 6) 0)) (hA : AdP G w tl 2 3 n y mod f w1) : ThL G w1 tl (n + 1) (va_up kd n q) (va_up th n true) (va_up ca n 0) (va_up ya n y) := by
  obtain ⟨e1, cap, f1, g1, g2, g3, g4, g5, g6, g7⟩ := hA
  refine ⟨mod, e1, f1, g3, Or.inr ⟨cap, by omega, g2, by omega, g4⟩, fun i hi => ?_⟩
  by_cases hin : i = n
  · subst hin
    rw [va_up_self, va_up_self, va_up_self, va_up_self]
    exact ⟨g6, G 6, g7 _ _ _ hy (by omega), ⟨fun _ => rfl, fun _ => rfl⟩⟩
  · obtain ⟨q1, st, q2, q3⟩ := h3 i (by omega)
    rw [va_up_ne _ _ hin, va_up_ne _ _ hin, va_up_ne _ _ hin, va_up_ne _ _ hin]
    exact ⟨by rw [g5 i (by omega)]; exact q1, st, g7 _ _ _ q2 (by omega), q3⟩
/-- a long more in a row -/
theorem Rw.add {ad G : Nat → Nat} {w w1 : mm} {a t te x : Nat} {mod : Int32} {f : Nat → Option Nat} {vs : List Int64} {v : Int64} (hv : ∀ (i : Nat) (v : Int64), vs[i]? = some v → ∃ y : Nat, f i = some y ∧ BX ad w y v) (hx : BX ad w x v) (hA : AdP G w a t te vs.length x mod f w1) (h7 : 7 ≠ t ∧ 7 ≠ te) : Rw ad G w1 a t te (vs ++ [v]) := by
  obtain ⟨e1, cap, f1, g1, g2, g3, g4, g5, g6, g7⟩ := hA
  have hl : (vs ++ [v]).length = vs.length + 1 := by simp
  refine ⟨mod, e1, f1, by rw [hl]; exact g3, Or.inr ⟨cap, by omega, g2, by omega, g4⟩, fun i u hi => ?_⟩
  by_cases hin : i < vs.length
  · rw [List.getElem?_append_left hin] at hi
    obtain ⟨y, a1, a2⟩ := hv i u hi
    exact ⟨y, by rw [g5 i hin]; exact a1, a2.kp g7 h7⟩
  · have h2 : i < (vs ++ [v]).length := (List.getElem?_eq_some_iff.mp hi).1
    have h3 : i = vs.length := by omega
    subst h3
    rw [List.getElem?_append_right (Nat.le_refl _), Nat.sub_self] at hi
    cases hi
    exact ⟨x, g6, hx.kp g7 h7⟩
/-- the objects of a row are longs -/
theorem Rw.el {l : Launch} {s0 : State} {D : va_G} {G ad : Nat → Nat} (E : Bs l s0 D G ad) {w : mm} {f : Nat → Option Nat} {vs : List Int64} (hv : ∀ (i : Nat) (v : Int64), vs[i]? = some v → ∃ y : Nat, f i = some y ∧ BX ad w y v) : ∀ i, i < vs.length → ∀ y, f i = some y → Rc s0 w y "java/lang/Long" := by
  intro i hi y hy
  obtain ⟨z, h1, h2⟩ := hv i vs[i] (List.getElem?_eq_getElem hi)
  cases hy.symm.trans h1
  exact h2.bl.rc E
/-- a list of m rows -/
def RwL (ad G : Nat → Nat) (w : mm) (rl m : Nat) (rw : Nat → List Int64) : Prop := ∃ (mod : Int32) (e : Nat) (f : Nat → Option Nat), w rl = some (4, oL mod e m) ∧ LB1 G w e m 5 f ∧ ∀ k, k < m → ∃ y : Nat, f k = some y ∧ Rw ad G w y (20 + k) (30 + k) (rw k)
theorem RwL.kp {ad G : Nat → Nat} {w w1 : mm} {rl m : Nat} {rw : Nat → List Int64} {S : Nat → Prop} (h : RwL ad G w rl m rw) (hm : m ≤ 4) (hk : Kp S w w1) (hS : ∀ t, t = 4 ∨ t = 5 ∨ t = 7 ∨ (20 ≤ t ∧ t < 24) ∨ (30 ≤ t ∧ t < 34) → S t) : RwL ad G w1 rl m rw := by
  obtain ⟨mod, e, f, h1, h2, h3⟩ := h
  refine ⟨mod, e, f, hk _ _ _ h1 (hS _ (by omega)), h2.kp hk (hS _ (by omega)), fun i hi => ?_⟩
  obtain ⟨y, g1, g2⟩ := h3 i hi
  exact ⟨y, g1, g2.kp hk (hS _ (by omega)) (hS _ (by omega)) (hS _ (by omega))⟩
/-- one row is another now -/
theorem RwL.put {ad G : Nat → Nat} {w w1 : mm} {rl m e k y : Nat} {rw : Nat → List Int64} {mod : Int32} {f : Nat → Option Nat} {row : List Int64} (h1 : w rl = some (4, oL mod e m)) (h2 : LB1 G w e m 5 f) (h3 : ∀ k, k < m → ∃ y : Nat, f k = some y ∧ Rw ad G w y (20 + k) (30 + k) (rw k)) (hm : m ≤ 4) (hkm : k < m) (hy : f k = some y) (hk : Kp (fun u => u ≠ 20 + k ∧ u ≠ 30 + k) w w1) (hn : Rw ad G w1 y (20 + k) (30 + k) row) : RwL ad G w1 rl m (va_up rw k row) := by
  refine ⟨mod, e, f, hk _ _ _ h1 (by omega), h2.kp hk (by omega), fun i hi => ?_⟩
  by_cases hik : i = k
  · subst hik
    exact ⟨y, hy, by rw [va_up_self]; exact hn⟩
  · obtain ⟨z, g1, g2⟩ := h3 i hi
    exact ⟨z, g1, by rw [va_up_ne _ _ hik]; exact g2.kp hk (by omega) (by omega) (by omega)⟩
/-- the array of parts -/
def PaL (G : Nat → Nat) (w : mm) (pa : Nat) (an : Nat → Int64) (fl : Nat → Nat) : Prop := ∃ f : Nat → Option Nat, w pa = some (6, eP G 32 f) ∧ ∀ k, k < 32 → ∃ y : Nat, f k = some y ∧ w y = some (100 + k, oP (an k) (nI (fl k)))
theorem PaL.kp {G : Nat → Nat} {w w1 : mm} {pa : Nat} {an : Nat → Int64} {fl : Nat → Nat} {S : Nat → Prop} (h : PaL G w pa an fl) (hk : Kp S w w1) (hS : ∀ t, t = 6 ∨ (100 ≤ t ∧ t < 132) → S t) : PaL G w1 pa an fl := by
  obtain ⟨f, h1, h2⟩ := h
  refine ⟨f, hk _ _ _ h1 (hS _ (by omega)), fun i hi => ?_⟩
  obtain ⟨y, g1, g2⟩ := h2 i hi
  exact ⟨y, g1, hk _ _ _ g2 (hS _ (by omega))⟩
theorem PaL.put {G : Nat → Nat} {w : mm} {pa k y : Nat} {an : Nat → Int64} {fl : Nat → Nat} {f : Nat → Option Nat} {v : Int64} {c : Nat} (h1 : w pa = some (6, eP G 32 f)) (h2 : ∀ k, k < 32 → ∃ y : Nat, f k = some y ∧ w y = some (100 + k, oP (an k) (nI (fl k)))) (hk : k < 32) (hy : f k = some y) : PaL G (mset w y (100 + k, oP v (nI c))) pa (va_up an k v) (va_up fl k c) := by
  obtain ⟨z, g1, g2⟩ := h2 k hk
  cases hy.symm.trans g1
  refine ⟨f, ?_, fun i hi => ?_⟩
  · rw [mset_ne _ _ (mm_ne h1 g2 (by omega))]; exact h1
  · by_cases hik : i = k
    · subst hik
      exact ⟨y, hy, by rw [va_up_self, va_up_self]; exact mset_self ..⟩
    · obtain ⟨z, q1, q2⟩ := h2 i hi
      exact ⟨z, q1, by rw [va_up_ne _ _ hik, va_up_ne _ _ hik, mset_ne _ _ (mm_ne q2 g2 (by omega))]; exact q2⟩
/-- the desk's own fields -/
abbrev oD (tl rl pa : Nat) (c0 c1 c2 c3 c4 c5 : Int32) : va_E := .inr (0, [.ref tl, .ref rl, .ref pa, .int c0, .int c1, .int c2, .int c3, .int c4, .int c5])
/-- things; rows; parts; the six numbers -/
abbrev Ab : Type := (Nat × (Nat → Int32) × (Nat → Bool) × (Nat → Nat)) × (Nat → List Int64) × ((Nat → Int64) × (Nat → Nat)) × (Int32 × Int32 × Int32 × Int32 × Int32 × Int32)
/-- the desk at x shows this state -/
def DK (ad G : Nat → Nat) (w : mm) (x : Nat) : Ab → Prop
  | ((n, kd, th, ca), rw, (an, fl), (c0, c1, c2, c3, c4, c5)) => ∃ (tl rl pa : Nat) (ya : Nat → Nat), w x = some (1, oD tl rl pa c0 c1 c2 c3 c4 c5) ∧ ThL G w tl n kd th ca ya ∧ RwL ad G w rl 4 rw ∧ PaL G w pa an fl
/-- what holds of every state that is reached: N calls at most were answered -/
def WF (N : Nat) : Ab → Prop
  | ((n, kd, th, ca), rw, (an, fl), _) => n ≤ 200 ∧ (∀ k, (rw k).length ≤ 50) ∧ (∀ k, fl k ≤ 6) ∧ (∀ i, ca i ≤ N) ∧ N < 2 ^ 20
/-- the model's tags -/
def MT : Nat → Prop := fun t => 50 ≤ t ∧ t < 60
def NT : Nat → Prop := fun t => ¬ (50 ≤ t ∧ t < 60)
theorem DK.kp {ad G : Nat → Nat} {w w1 : mm} {x : Nat} {A : Ab} (h : DK ad G w x A) (hk : Kp NT w w1) : DK ad G w1 x A := by
  obtain ⟨⟨n, kd, th, ca⟩, rw, ⟨an, fl⟩, ⟨c0, c1, c2, c3, c4, c5⟩⟩ := A
  obtain ⟨tl, rl, pa, ya, h1, h2, h3, h4⟩ := h
  exact ⟨tl, rl, pa, ya, hk _ _ _ h1 (by unfold NT; omega), h2.kp hk (fun t ht => by unfold NT; omega), h3.kp (by omega) hk (fun t ht => by unfold NT; omega), h4.kp hk (fun t ht => by unfold NT; omega)⟩
/-- the model's own fields -/
abbrev oM (a0 a1 a2 a3 a4 a5 a6 n : Nat) (z c0 c1 c2 c3 c4 c5 wy : Int32) : va_E := .inr (2, [.ref a0, .ref a1, .ref a2, .ref a3, .ref a4, .ref a5, .ref a6, .int (nI n), .int z, .int c0, .int c1, .int c2, .int c3, .int c4, .int c5, .int wy])
/-- the model at x shows this state; wy: its way -/
def MDw (G : Nat → Nat) (w : mm) (x : Nat) (wy : Int32) : Ab → Prop
  | ((n, kd, th, ca), rw, (an, fl), (c0, c1, c2, c3, c4, c5)) => ∃ (a0 a1 a2 a3 a4 a5 a6 : Nat) (z : Int32) (f0 : Nat → Int64) (f1 : Nat → Int32) (f2 : Nat → Int64) (f3 f4 f5 : Nat → Int32) (f6 : Nat → Int64), w x = some (50, oM a0 a1 a2 a3 a4 a5 a6 n z c0 c1 c2 c3 c4 c5 wy) ∧
      (w a0 = some (51, eJ G 4 f0) ∧ ∀ k, k < 4 → f0 k = vsum (rw k)) ∧ (w a1 = some (52, eI G 4 f1) ∧ ∀ k, k < 4 → f1 k = nI (rw k).length) ∧ (w a2 = some (53, eJ G 32 f2) ∧ ∀ k, k < 32 → f2 k = an k) ∧ (w a3 = some (54, eI G 32 f3) ∧ ∀ k, k < 32 → f3 k = nI (fl k)) ∧
      (w a4 = some (55, eI G 200 f4) ∧ ∀ k, k < n → f4 k = kd k) ∧ (w a5 = some (56, eZ G 200 f5) ∧ ∀ k, k < n → f5 k = if th k = true then 1 else 0) ∧ (w a6 = some (57, eJ G 200 f6) ∧ ∀ k, k < n → f6 k = lN (ca k))
def MD (G : Nat → Nat) (w : mm) (x : Nat) (A : Ab) : Prop := ∃ wy : Int32, MDw G w x wy A
theorem MD.kp {G : Nat → Nat} {w w1 : mm} {x : Nat} {A : Ab} (h : MD G w x A) (hk : Kp MT w w1) : MD G w1 x A := by
  obtain ⟨⟨n, kd, th, ca⟩, rw, ⟨an, fl⟩, ⟨c0, c1, c2, c3, c4, c5⟩⟩ := A
  obtain ⟨wy, a0, a1, a2, a3, a4, a5, a6, z, f0, f1, f2, f3, f4, f5, f6, hx, ⟨h0, g0⟩, ⟨h1, g1⟩, ⟨h2, g2⟩, ⟨h3, g3⟩, ⟨h4, g4⟩, ⟨h5, g5⟩, ⟨h6, g6⟩⟩ := h
  exact ⟨wy, a0, a1, a2, a3, a4, a5, a6, z, f0, f1, f2, f3, f4, f5, f6, hk _ _ _ hx (by unfold MT; omega), ⟨hk _ _ _ h0 (by unfold MT; omega), g0⟩, ⟨hk _ _ _ h1 (by unfold MT; omega), g1⟩, ⟨hk _ _ _ h2 (by unfold MT; omega), g2⟩, ⟨hk _ _ _ h3 (by unfold MT; omega), g3⟩, ⟨hk _ _ _ h4 (by unfold MT; omega), g4⟩, ⟨hk _ _ _ h5 (by unfold MT; omega), g5⟩, ⟨hk _ _ _ h6 (by unfold MT; omega), g6⟩⟩
/-! indices -/
/-- an index below n -/
def ixo (n : Nat) (x : Int32) : Option Nat := if x < 0 ∨ nI n ≤ x then none else some x.toNatClampNeg
theorem ixo_neg {n : Nat} {x : Int32} (h : x < 0) : ixo n x = none := if_pos (Or.inl h)
theorem ixo_ge {n : Nat} {x : Int32} (h : nI n ≤ x) : ixo n x = none := if_pos (Or.inr h)
theorem ixo_in {n k : Nat} (h : k < n) (hn : n < 2 ^ 31) : ixo n (nI k) = some k := by
  unfold ixo
  rw [if_neg (fun q => q.elim (nI_pos (by omega)) (nI_ge h hn)), nI_clamp (by omega)]
/-- the place of a thing's number -/
def ixt (n : Nat) (x : Int32) : Option Nat := if x < 1 ∨ nI n < x then none else some (x.toNatClampNeg - 1)
theorem ixt_lo {n : Nat} {x : Int32} (h : x < 1) : ixt n x = none := if_pos (Or.inl h)
theorem ixt_hi {n : Nat} {x : Int32} (h : nI n < x) : ixt n x = none := if_pos (Or.inr h)
theorem ixt_in {n k : Nat} (h : k < n) (hn : n < 2 ^ 30) : ixt n (nI (k + 1)) = some k := by
  unfold ixt
  rw [if_neg (fun q => q.elim (nI_nlt (b := 1) (by omega) (by omega)) (nI_nlt (by omega) (by omega))), nI_clamp (by omega)]
  rfl
theorem ixt_cases (n : Nat) (hn : n < 2 ^ 30) (x : Int32) : (x < 1 ∧ ixt n x = none) ∨ (¬ x < 1 ∧ nI n < x ∧ ixt n x = none) ∨ ∃ k : Nat, k < n ∧ x = nI (k + 1) ∧ ixt n x = some k := by
  rcases pk_ix x (n := n + 1) (by omega) with h | h | ⟨j, hj, rfl⟩
  · have h1 : x < 1 := by
      rw [Int32.lt_iff_toInt_lt] at h ⊢
      rw [Int32.toInt_zero] at h
      rw [show (1 : Int32).toInt = 1 by decide +kernel]
      omega
    exact Or.inl ⟨h1, ixt_lo h1⟩
  · have h2 : nI n < x := by
      rw [Int32.le_iff_toInt_le, nI_toInt (by omega)] at h
      rw [Int32.lt_iff_toInt_lt, nI_toInt (by omega)]
      omega
    have h1 : ¬ x < 1 := by
      rw [Int32.lt_iff_toInt_lt, nI_toInt (by omega)] at h2
      rw [Int32.lt_iff_toInt_lt, show (1 : Int32).toInt = 1 by decide +kernel]
      omega
    exact Or.inr (Or.inl ⟨h1, h2, ixt_hi h2⟩)
  · cases j with
    | zero =>
      have h1 : nI 0 < 1 := nI_lt (b := 1) (by omega) (by omega)
      exact Or.inl ⟨h1, ixt_lo h1⟩
    | succ k => exact Or.inr (Or.inr ⟨k, by omega, rfl, ixt_in (by omega) hn⟩)
theorem ge_nn {n : Nat} {x : Int32} (hn : n < 2 ^ 31) (h : nI n ≤ x) : ¬ x < 0 := by
  rw [Int32.le_iff_toInt_le, nI_toInt hn] at h
  rw [Int32.lt_iff_toInt_lt, Int32.toInt_zero]
  omega
theorem h10 : ¬ (1 : Int32) = 0 := by decide
def bI : Option Nat → Int32
  | none => 0
  | some _ => 1
/-! what the calls answer and leave -/
abbrev upT (th : Nat → Bool) (i : Nat) (b : Bool) : Nat → Bool := va_up th i b
def fCollect : Ab → Int32 → Int64 → Int32 × Ab
  | ((n, kd, th, ca), rw, (an, fl), cs), what, v => match ixo 4 what with
    | none => (-1, ((n, kd, th, ca), rw, (an, fl), cs))
    | some k => if (rw k).length = 50 then (-1, ((n, kd, th, ca), rw, (an, fl), cs)) else (nI ((rw k).length + 1), ((n, kd, th, ca), va_up rw k (rw k ++ [v]), (an, fl), cs))
def fAnswer : Ab → Int32 → Int64 → Int32 × Ab
  | ((n, kd, th, ca), rw, (an, fl), cs), call, v => match ixo 32 call with
    | none => (-1, ((n, kd, th, ca), rw, (an, fl), cs))
    | some k => (1, ((n, kd, th, ca), rw, (va_up an k v, fl), cs))
def fFails : Ab → Int32 → Int32 → Int32 × Ab
  | ((n, kd, th, ca), rw, (an, fl), cs), call, q => match ixo 32 call, ixo 7 q with
    | some k, some j => (nI (fl k), ((n, kd, th, ca), rw, (an, va_up fl k j), cs))
    | _, _ => (-1, ((n, kd, th, ca), rw, (an, fl), cs))
def fMake : Ab → Int32 → Int32 × Ab
  | ((n, kd, th, ca), rw, (an, fl), cs), q => match ixo 8 q with
    | none => (-1, ((n, kd, th, ca), rw, (an, fl), cs))
    | some _ => if n = 200 then (-1, ((n, kd, th, ca), rw, (an, fl), cs)) else (nI (n + 1), ((n + 1, va_up kd n q, va_up th n true, va_up ca n 0), rw, (an, fl), cs))
def fDrop : Ab → Int32 → Int32 × Ab
  | ((n, kd, th, ca), rw, (an, fl), cs), num => match ixt n num with
    | none => (0, ((n, kd, th, ca), rw, (an, fl), cs))
    | some i => if th i = true then (1, ((n, kd, va_up th i false, ca), rw, (an, fl), cs)) else (0, ((n, kd, th, ca), rw, (an, fl), cs))
/-- why a call can't be made -/
def fRef : Ab → Int32 → Int32 → Int64 → Int32
  | ((n, kd, th, _), rw, _, _), call, num, a => match ixo 32 call, ixt n num with
    | some k, some i => if kd i = nI (k % 8) then (if a < 0 ∨ 1000000 < a then -4 else if th i = false ∨ (24 ≤ k ∧ rw (k % 4) = []) then -5 else 0) else -2
    | _, _ => -2
/-- the row that a call takes -/
def rowA (rw : Nat → List Int64) (k : Nat) : List Int64 := if k < 8 then [] else rw (k % 4)
/-- what a part answers -/
def valA (rw : Nat → List Int64) (an : Nat → Int64) (kd : Nat → Int32) (ca : Nat → Nat) (k i : Nat) (a : Int64) : Int64 := an k + a + vsum (rowA rw k) + (if kd i = 3 then (nI (ca i)).toInt64 else 0)
def clrA (rw : Nat → List Int64) (k : Nat) : Nat → List Int64 := if k < 8 then rw else va_up rw (k % 4) []
/-- what a call comes to, if it isn't refused -/
def fTry : Ab → Nat → Nat → Int64 → Int64
  | ((_, kd, _, ca), rw, (an, fl), _), k, i, a => if fl k = 0 then valA rw an kd ca k i a else -10 - (nI (fl k)).toInt64
def fAgain (A : Ab) (call num : Int32) (a : Int64) : Int64 := if fRef A call num a = 0 then fTry A ((ixo 32 call).getD 0) ((ixt A.1.1 num).getD 0) a else (fRef A call num a).toInt64
def fDone : Ab → Nat → Nat → Int32 → Int32 → Ab
  | ((n, kd, th, ca), rw, (an, fl), (c0, c1, c2, c3, c4, c5)), k, i, call, num => if fl k = 0 then ((n, kd, th, va_up ca i (ca i + 1)), clrA rw k, (an, fl), (c0, c1, c2, c3, c4, c5 + 1)) else ((n, kd, va_up th i false, ca), clrA rw k, (an, fl), (nI (fl k), call, num, c3 + 1, c4, c5))
def fRfs : Ab → Ab
  | ((n, kd, th, ca), rw, (an, fl), (c0, c1, c2, c3, c4, c5)) => ((n, kd, th, ca), rw, (an, fl), (c0, c1, c2, c3, c4 + 1, c5))
def fCall (A : Ab) (call num : Int32) (a : Int64) : Ab := if fRef A call num a = 0 then fDone A ((ixo 32 call).getD 0) ((ixt A.1.1 num).getD 0) call num else fRfs A
def fTold : Ab → Int32 → Int32
  | (_, _, _, (c0, c1, c2, c3, c4, c5)), q => match ixo 6 q with
    | some 0 => c0
    | some 1 => c1
    | some 2 => c2
    | some 3 => c3
    | some 4 => c4
    | some 5 => c5
    | _ => -1
def cnt (kd : Nat → Int32) (th : Nat → Bool) (q : Int32) : Nat → Int32
  | 0 => 0
  | i + 1 => if kd i = q ∧ th i = true then cnt kd th q i + 1 else cnt kd th q i
def fNumbers : Ab → Int32 → Int32
  | ((n, kd, th, _), _, _, _), q => match ixo 8 q with
    | none => -1
    | some _ => cnt kd th q n
end
section
/-! ===== the desk's small methods ===== -/
set_option maxHeartbeats 4000000 in
theorem m_getL {l : Launch} {s0 : State} {D : va_G} {G ad : Nat → Nat} {w : mm} (E : Bs l s0 D G ad) {a t e te n i y : Nat} {mod : Int32} {f : Nat → Option Nat} (h : w a = some (t, oL mod e n)) (hB : LB1 G w e n te f) (hi : i < n) (hf : f i = some y) : Mt l yJ2_get cJ2_get 2 (some (FieldType.object "java/lang/Object")) (rmk 2 0 0 43) [.ref a, .int (nI i)] s0 D w (Qr s0 D (fun r w1 => r = y ∧ w1 = w)) := by
  rcases hB with ⟨-, hz⟩ | ⟨cap, g1, g2, g3, he⟩
  · omega
  · exact m_get E h he hi g1 (by omega) hf

set_option maxHeartbeats 4000000 in
set_option maxRecDepth 100000 in
/-- Thing(kind) -/
theorem m_tinit {l : Launch} {s0 : State} {D : va_G} {G ad : Nat → Nat} {w : mm} (E : Bs l s0 D G ad) {a t : Nat} (q : Int32) (h : w a = some (t, .inr (3, [.int 0, .null, .int 0]))) : Mt l yX3_init cX3_init 2 (none) (rmk 1 0 0 12) [.ref a, .int q] s0 D w (Qv s0 D (fun w1 => w1 = mset w a (t, oH q (G 6) 0))) := by
  refine Met.go E (by decide +kernel) (Nat.le_of_ble_eq_true rfl) (fun p ev s m below meth c ls M hr hlk hnm hl hP => ?_)
  have hx := M.1.1
  have hb := M.1.2.1
  have hl : lv_has ls 2 [(0, .ref a), (1, .int q)] := hl
  refine lv_aload_n hx hb dX3_init_0 rfl (lv_at hl 0 rfl) ?_
  refine W.objInit hx hb M.1.2.2.2.1 (M.1.2.2.2.2 _ q247) (M.1.2.2.2.2 _ q49) (M.1.2.2.2.2 _ q50) rfl (by rw [M.1.2.2.1]; exact hl.1) rfl dX3_init_1 (Nat.le_of_ble_eq_true rfl) (Nat.le_of_ble_eq_true rfl) ?_
  refine lv_aload_n hx hb dX3_init_4 rfl (lv_at hl 0 rfl) ?_
  refine r_gets M hP E.there q248 (fun _ h9 => h9) dX3_init_5 ?_
  refine r_put (v := .ref (G 6)) M cdX3 hP h 1 (by decide) q253 (fun _ h9 => h9) rfl rfl rfl (Nat.le_of_ble_eq_true rfl) dX3_init_8 (fun H locs hP => ?_)
  obtain ⟨w1, ew1⟩ : ∃ z : mm, z = mset w a (t, .inr (3, [.int 0, .ref (G 6), .int 0])) := ⟨_, rfl⟩
  have hP := Px.re ew1 hP
  have h1 : w1 a = some (t, .inr (3, [.int 0, .ref (G 6), .int 0])) := by rw [ew1]; exact mset_self ..
  refine lv_aload_n hx hb dX3_init_11 rfl (lv_at hl 0 rfl) ?_
  refine lv_iload_n hx hb dX3_init_12 rfl (lv_at hl 1 rfl) ?_
  refine r_putF (v := .int q) M cdX3 hP h1 0 (by decide) q250 (fun _ h9 => h9) rfl hnm rfl rfl rfl (Nat.le_of_ble_eq_true rfl) dX3_init_13 (fun H locs hP => ?_)
  obtain ⟨w2, ew2⟩ : ∃ z : mm, z = mset w1 a (t, oH q (G 6) 0) := ⟨_, rfl⟩
  have hP := Px.re ew2 hP
  exact r_vret M hr hlk hP (by rw [ew2, ew1, mset_mset]) dX3_init_16 (Nat.le_of_ble_eq_true rfl) (Nat.le_of_ble_eq_true rfl)
set_option maxHeartbeats 4000000 in
set_option maxRecDepth 100000 in
/-- Thing.isThere() -/
theorem m_isThere {l : Launch} {s0 : State} {D : va_G} {G ad : Nat → Nat} {w : mm} (E : Bs l s0 D G ad) {a t st : Nat} {kd nc : Int32} (h : w a = some (t, oH kd st nc)) : Mt l yX3_isThere cX3_isThere 1 (some FieldType.boolean) (rmk 0 0 0 0) [.ref a] s0 D w (Qi s0 D (fun r w1 => r = (if st = G 6 then 1 else 0) ∧ w1 = w)) := by
  refine Met.go E (by decide +kernel) (Nat.le_of_ble_eq_true rfl) (fun p ev s m below meth c ls M hr hlk hnm hl hP => ?_)
  have hx := M.1.1
  have hb := M.1.2.1
  have hl : lv_has ls 1 [(0, .ref a)] := hl
  refine lv_aload_n hx hb dX3_isThere_0 rfl (lv_at hl 0 rfl) ?_
  refine r_get M cdX3 hP h 1 (by decide) q253 (fun _ h9 => h9) rfl dX3_isThere_1 ?_
  refine r_gets M hP E.there q248 (fun _ h9 => h9) dX3_isThere_4 ?_
  refine lv_acmp_ne (rx := some st) (ry := some (G 6)) (tgt := 14) hx hb dX3_isThere_7 (by decide) (fun c1 => ?_) (fun c1 => ?_)
  · refine lv_iconst (v := 0) hx hb dX3_isThere_14 (by decide) ?_
    exact r_zret M hr hlk hP rfl ⟨by rw [if_neg (fun z => c1 (by rw [z]))], rfl⟩ dX3_isThere_15 (Nat.le_of_ble_eq_true rfl) (Nat.le_of_ble_eq_true rfl)
  · refine lv_iconst (v := 1) hx hb dX3_isThere_10 (by decide) ?_
    refine lv_goto (tgt := 15) hx hb dX3_isThere_11 (by decide) ?_
    exact r_zret M hr hlk hP rfl ⟨by rw [if_pos (Option.some.inj c1)], rfl⟩ dX3_isThere_15 (Nat.le_of_ble_eq_true rfl) (Nat.le_of_ble_eq_true rfl)
set_option maxHeartbeats 4000000 in
set_option maxRecDepth 100000 in
/-- Part() -/
theorem m_pinit {l : Launch} {s0 : State} {D : va_G} {G ad : Nat → Nat} {w : mm} (E : Bs l s0 D G ad) (a : Nat) : Mt l yX1_init cX1_init 1 (none) (rmk 1 0 0 12) [.ref a] s0 D w (Qv s0 D (fun w1 => w1 = w)) := by
  refine Met.go E (by decide +kernel) (Nat.le_of_ble_eq_true rfl) (fun p ev s m below meth c ls M hr hlk hnm hl hP => ?_)
  have hx := M.1.1
  have hb := M.1.2.1
  have hl : lv_has ls 1 [(0, .ref a)] := hl
  refine lv_aload_n hx hb dX1_init_0 rfl (lv_at hl 0 rfl) ?_
  refine W.objInit hx hb M.1.2.2.2.1 (M.1.2.2.2.2 _ q147) (M.1.2.2.2.2 _ q49) (M.1.2.2.2.2 _ q50) rfl (by rw [M.1.2.2.1]; exact hl.1) rfl dX1_init_1 (Nat.le_of_ble_eq_true rfl) (Nat.le_of_ble_eq_true rfl) ?_
  exact r_vret M hr hlk hP rfl dX1_init_4 (Nat.le_of_ble_eq_true rfl) (Nat.le_of_ble_eq_true rfl)
set_option maxHeartbeats 4000000 in
set_option maxRecDepth 100000 in
/-- MainframeDesk.isCall(c) -/
theorem m_isCall {l : Launch} {s0 : State} {D : va_G} {G ad : Nat → Nat} {w : mm} (E : Bs l s0 D G ad) (q : Int32) : Mt l yX0_isCall cX0_isCall 1 (some FieldType.boolean) (rmk 0 0 0 0) [.int q] s0 D w (Qi s0 D (fun r w1 => r = bI (ixo 32 q) ∧ w1 = w)) := by
  refine Met.go E (by decide +kernel) (Nat.le_of_ble_eq_true rfl) (fun p ev s m below meth c ls M hr hlk hnm hl hP => ?_)
  have hx := M.1.1
  have hb := M.1.2.1
  have hl : lv_has ls 1 [(0, .int q)] := hl
  rcases pk_ix q (n := 32) (by decide) with h | h | ⟨j, hj, rfl⟩
  · refine lv_iload_n hx hb dX0_isCall_0 rfl (lv_at hl 0 rfl) ?_
    refine lv_if_lt (tgt := 14) hx hb dX0_isCall_1 (by decide) (fun _ => ?_) (fun c9 => absurd (h) c9)
    refine lv_iconst (v := 0) hx hb dX0_isCall_14 (by decide) ?_
    exact r_zret M hr hlk hP rfl ⟨by rw [ixo_neg h]; rfl, rfl⟩ dX0_isCall_15 (Nat.le_of_ble_eq_true rfl) (Nat.le_of_ble_eq_true rfl)
  · refine lv_iload_n hx hb dX0_isCall_0 rfl (lv_at hl 0 rfl) ?_
    refine lv_if_lt (tgt := 14) hx hb dX0_isCall_1 (by decide) (fun c9 => absurd c9 (ge_nn (by decide) h)) (fun _ => ?_)
    refine lv_iload_n hx hb dX0_isCall_4 rfl (lv_at hl 0 rfl) ?_
    refine lv_bipush (v := 32) hx hb dX0_isCall_5 (by decide) ?_
    refine lv_icmp_ge (tgt := 14) hx hb dX0_isCall_7 (by decide) (fun _ => ?_) (fun c9 => absurd (h) c9)
    refine lv_iconst (v := 0) hx hb dX0_isCall_14 (by decide) ?_
    exact r_zret M hr hlk hP rfl ⟨by rw [ixo_ge h]; rfl, rfl⟩ dX0_isCall_15 (Nat.le_of_ble_eq_true rfl) (Nat.le_of_ble_eq_true rfl)
  · refine lv_iload_n hx hb dX0_isCall_0 rfl (lv_at hl 0 rfl) ?_
    refine lv_if_lt (tgt := 14) hx hb dX0_isCall_1 (by decide) (fun c9 => absurd c9 (nI_pos (by omega))) (fun _ => ?_)
    refine lv_iload_n hx hb dX0_isCall_4 rfl (lv_at hl 0 rfl) ?_
    refine lv_bipush (v := 32) hx hb dX0_isCall_5 (by decide) ?_
    refine lv_icmp_ge (tgt := 14) hx hb dX0_isCall_7 (by decide) (fun c9 => absurd c9 (nI_ge (b := 32) hj (by decide))) (fun _ => ?_)
    refine lv_iconst (v := 1) hx hb dX0_isCall_10 (by decide) ?_
    refine lv_goto (tgt := 15) hx hb dX0_isCall_11 (by decide) ?_
    exact r_zret M hr hlk hP rfl ⟨by rw [ixo_in hj (by decide)]; rfl, rfl⟩ dX0_isCall_15 (Nat.le_of_ble_eq_true rfl) (Nat.le_of_ble_eq_true rfl)
/-- what find answers -/
def FdP (G : Nat → Nat) (w : mm) (n : Nat) (kd : Nat → Int32) (th : Nat → Bool) (ca ya : Nat → Nat) (num : Int32) (r : Option Nat) : Prop := (ixt n num = none ∧ r = none) ∨ ∃ i st : Nat, ixt n num = some i ∧ i < n ∧ num = nI (i + 1) ∧ r = some (ya i) ∧ w (ya i) = some (1000 + i, oH (kd i) st (nI (ca i))) ∧ (th i = true ↔ st = G 6)

set_option maxHeartbeats 4000000 in
set_option maxRecDepth 100000 in
/-- MainframeDesk.find(n) -/
theorem m_find {l : Launch} {s0 : State} {D : va_G} {G ad : Nat → Nat} {w : mm} (E : Bs l s0 D G ad) {x tl rl pa n : Nat} {kd : Nat → Int32} {th : Nat → Bool} {ca ya : Nat → Nat} {c0 c1 c2 c3 c4 c5 : Int32} (hxo : w x = some (1, oD tl rl pa c0 c1 c2 c3 c4 c5)) (hT : ThL G w tl n kd th ca ya) (hn : n ≤ 200) (num : Int32) : Mt l yX0_find cX0_find 2 (some (FieldType.object "MainframeDesk$Thing")) (rmk 3 0 0 64) [.ref x, .int num] s0 D w (Qq s0 D (fun r w1 => FdP G w n kd th ca ya num r ∧ w1 = w)) := by
  refine Met.go E (by decide +kernel) (Nat.le_of_ble_eq_true rfl) (fun p ev s m below meth c ls M hr hlk hnm hl hP => ?_)
  have hx := M.1.1
  have hb := M.1.2.1
  have hl : lv_has ls 2 [(0, .ref x), (1, .int num)] := hl
  obtain ⟨mod, e, f, hL, hB, hv⟩ := hT
  rcases ixt_cases n (by omega) num with ⟨b0, hi⟩ | ⟨b0, b1, hi⟩ | ⟨i, hin, rfl, hi⟩
  · refine lv_iload_n hx hb dX0_find_0 rfl (lv_at hl 1 rfl) ?_
    refine lv_iconst (v := 1) hx hb dX0_find_1 (by decide) ?_
    refine lv_icmp_lt (tgt := 16) hx hb dX0_find_2 (by decide) (fun _ => ?_) (fun c9 => absurd (b0) c9)
    refine lv_null hx hb dX0_find_16 ?_
    refine lv_goto (tgt := 33) hx hb dX0_find_17 (by decide) ?_
    exact r_qret (v := none) M hr (Or.inl ⟨_, rfl⟩) hlk hP ⟨Or.inl ⟨hi, rfl⟩, rfl⟩ dX0_find_33 (Nat.le_of_ble_eq_true rfl) (Nat.le_of_ble_eq_true rfl)
  · refine lv_iload_n hx hb dX0_find_0 rfl (lv_at hl 1 rfl) ?_
    refine lv_iconst (v := 1) hx hb dX0_find_1 (by decide) ?_
    refine lv_icmp_lt (tgt := 16) hx hb dX0_find_2 (by decide) (fun c9 => absurd c9 (b0)) (fun _ => ?_)
    refine lv_iload_n hx hb dX0_find_5 rfl (lv_at hl 1 rfl) ?_
    refine lv_aload_n hx hb dX0_find_6 rfl (lv_at hl 0 rfl) ?_
    refine r_get M cdX0 hP hxo 0 (by decide) q157 (fun _ h9 => h9) rfl dX0_find_7 ?_
    refine c_i (r_runV 0 M (m_size E hL) hP (Rc.of cdJ2 hL) (lw_V q203 q204 q205 q15 q206) (by decide +kernel) rfl ⟨Nat.le_of_ble_eq_true rfl, Nat.le_of_ble_eq_true rfl⟩ hl.1 rfl (Nat.le_of_ble_eq_true rfl) dX0_find_10 ⟨Nat.le_of_ble_eq_true rfl, Nat.le_of_ble_eq_true rfl⟩) hP (fun r w1 H locs hq hP => ?_)
    obtain ⟨er, ew⟩ := hq
    rw [ew] at hP
    rw [er]
    refine lv_icmp_le (tgt := 20) hx hb dX0_find_13 (by decide) (fun c9 => absurd c9 (Int32.not_le.mpr b1)) (fun _ => ?_)
    refine lv_null hx hb dX0_find_16 ?_
    refine lv_goto (tgt := 33) hx hb dX0_find_17 (by decide) ?_
    exact r_qret (v := none) M hr (Or.inl ⟨_, rfl⟩) hlk hP ⟨Or.inl ⟨hi, rfl⟩, rfl⟩ dX0_find_33 (Nat.le_of_ble_eq_true rfl) (Nat.le_of_ble_eq_true rfl)
  · obtain ⟨hf, st, hth, hst⟩ := hv i hin
    refine lv_iload_n hx hb dX0_find_0 rfl (lv_at hl 1 rfl) ?_
    refine lv_iconst (v := 1) hx hb dX0_find_1 (by decide) ?_
    refine lv_icmp_lt (tgt := 16) hx hb dX0_find_2 (by decide) (fun c9 => absurd c9 (nI_nlt (b := 1) (by omega) (by omega))) (fun _ => ?_)
    refine lv_iload_n hx hb dX0_find_5 rfl (lv_at hl 1 rfl) ?_
    refine lv_aload_n hx hb dX0_find_6 rfl (lv_at hl 0 rfl) ?_
    refine r_get M cdX0 hP hxo 0 (by decide) q157 (fun _ h9 => h9) rfl dX0_find_7 ?_
    refine c_i (r_runV 0 M (m_size E hL) hP (Rc.of cdJ2 hL) (lw_V q203 q204 q205 q15 q206) (by decide +kernel) rfl ⟨Nat.le_of_ble_eq_true rfl, Nat.le_of_ble_eq_true rfl⟩ hl.1 rfl (Nat.le_of_ble_eq_true rfl) dX0_find_10 ⟨Nat.le_of_ble_eq_true rfl, Nat.le_of_ble_eq_true rfl⟩) hP (fun r w1 H locs hq hP => ?_)
    obtain ⟨er, ew⟩ := hq
    rw [ew] at hP
    rw [er]
    refine lv_icmp_le (tgt := 20) hx hb dX0_find_13 (by decide) (fun _ => ?_) (fun c9 => absurd (nI_le (by omega) (by omega)) c9)
    refine lv_aload_n hx hb dX0_find_20 rfl (lv_at hl 0 rfl) ?_
    refine r_get M cdX0 hP hxo 0 (by decide) q157 (fun _ h9 => h9) rfl dX0_find_21 ?_
    refine lv_iload_n hx hb dX0_find_24 rfl (lv_at hl 1 rfl) ?_
    refine lv_iconst (v := 1) hx hb dX0_find_25 (by decide) ?_
    refine lv_isub hx hb dX0_find_26 ?_
    rw [nI_pred]
    refine c_r (r_runV 1 M (m_getL E hL hB hin hf) hP (Rc.of cdJ2 hL) (lw_V q189 q190 q191 q15 q192) (by decide +kernel) rfl ⟨Nat.le_of_ble_eq_true rfl, Nat.le_of_ble_eq_true rfl⟩ hl.1 rfl (Nat.le_of_ble_eq_true rfl) dX0_find_27 ⟨Nat.le_of_ble_eq_true rfl, Nat.le_of_ble_eq_true rfl⟩) hP (fun r w2 H locs hq hP => ?_)
    obtain ⟨er, ew⟩ := hq
    rw [ew] at hP
    rw [er]
    refine r_cast M hP cdX3 (Rc.of cdX3 hth) q242 dX0_find_30 ?_
    exact r_qret (v := some (ya i)) M hr (Or.inl ⟨_, rfl⟩) hlk hP ⟨Or.inr ⟨i, st, hi, hin, rfl, rfl, hth, hst⟩, rfl⟩ dX0_find_33 (Nat.le_of_ble_eq_true rfl) (Nat.le_of_ble_eq_true rfl)
set_option maxHeartbeats 4000000 in
set_option maxRecDepth 100000 in
/-- MainframeDesk.told(what) -/
theorem m_told {l : Launch} {s0 : State} {D : va_G} {G ad : Nat → Nat} {w : mm} (E : Bs l s0 D G ad) {x : Nat} {n : Nat} {kd : Nat → Int32} {th : Nat → Bool} {ca : Nat → Nat} {rw : Nat → List Int64} {an : Nat → Int64} {fl : Nat → Nat} {c0 c1 c2 c3 c4 c5 : Int32} (h : DK ad G w x ((n, kd, th, ca), rw, (an, fl), (c0, c1, c2, c3, c4, c5))) (hn : n ≤ 200) (q : Int32) : Mt l yX0_told cX0_told 2 (some FieldType.int) (rmk 0 0 0 0) [.ref x, .int q] s0 D w (Qi s0 D (fun r w1 => r = fTold ((n, kd, th, ca), rw, (an, fl), (c0, c1, c2, c3, c4, c5)) q ∧ DK ad G w1 x ((n, kd, th, ca), rw, (an, fl), (c0, c1, c2, c3, c4, c5)) ∧ Kp MT w w1)) := by
  refine Met.go E (by decide +kernel) (Nat.le_of_ble_eq_true rfl) (fun p ev s m below meth c ls M hr hlk hnm hl hP => ?_)
  have hx := M.1.1
  have hb := M.1.2.1
  have hl : lv_has ls 2 [(0, .ref x), (1, .int q)] := hl
  obtain ⟨tl, rl, pa, ya, hxo, hT, hR, hPa⟩ := h
  rcases pk_ix q (n := 6) (by decide) with h | h | ⟨j, hj, rfl⟩
  · refine lv_iload_n hx hb dX0_told_0 rfl (lv_at hl 1 rfl) ?_
    refine lv_tableOut (tgt := 70) hx hb dX0_told_1 (Or.inl (by rw [Int32.lt_iff_toInt_lt, Int32.toInt_zero] at h; exact h)) (by decide) ?_
    refine lv_iconst (v := (-1)) hx hb dX0_told_70 (by decide) ?_
    exact r_iret M hr hlk hP ⟨by simp only [fTold, ixo_neg h], ⟨tl, rl, pa, ya, hxo, hT, hR, hPa⟩, Kp.rf⟩ dX0_told_71 (Nat.le_of_ble_eq_true rfl) (Nat.le_of_ble_eq_true rfl)
  · refine lv_iload_n hx hb dX0_told_0 rfl (lv_at hl 1 rfl) ?_
    refine lv_tableOut (tgt := 70) hx hb dX0_told_1 (Or.inr (by rw [Int32.le_iff_toInt_le, nI_toInt (by decide)] at h; omega)) (by decide) ?_
    refine lv_iconst (v := (-1)) hx hb dX0_told_70 (by decide) ?_
    exact r_iret M hr hlk hP ⟨by simp only [fTold, ixo_ge h], ⟨tl, rl, pa, ya, hxo, hT, hR, hPa⟩, Kp.rf⟩ dX0_told_71 (Nat.le_of_ble_eq_true rfl) (Nat.le_of_ble_eq_true rfl)
  · have hj : j = 0 ∨ j = 1 ∨ j = 2 ∨ j = 3 ∨ j = 4 ∨ j = 5 := by omega
    rcases hj with rfl | rfl | rfl | rfl | rfl | rfl
    · refine lv_iload_n hx hb dX0_told_0 rfl (lv_at hl 1 rfl) ?_
      refine lv_tableIn (tgt := 40) hx hb dX0_told_1 (by decide +kernel) (by decide +kernel) rfl (by decide) ?_
      refine lv_aload_n hx hb dX0_told_40 rfl (lv_at hl 0 rfl) ?_
      refine r_get M cdX0 hP hxo 3 (by decide) q160 (fun _ h9 => h9) rfl dX0_told_41 ?_
      exact r_iret M hr hlk hP ⟨rfl, ⟨tl, rl, pa, ya, hxo, hT, hR, hPa⟩, Kp.rf⟩ dX0_told_44 (Nat.le_of_ble_eq_true rfl) (Nat.le_of_ble_eq_true rfl)
    · refine lv_iload_n hx hb dX0_told_0 rfl (lv_at hl 1 rfl) ?_
      refine lv_tableIn (tgt := 45) hx hb dX0_told_1 (by decide +kernel) (by decide +kernel) rfl (by decide) ?_
      refine lv_aload_n hx hb dX0_told_45 rfl (lv_at hl 0 rfl) ?_
      refine r_get M cdX0 hP hxo 4 (by decide) q161 (fun _ h9 => h9) rfl dX0_told_46 ?_
      exact r_iret M hr hlk hP ⟨rfl, ⟨tl, rl, pa, ya, hxo, hT, hR, hPa⟩, Kp.rf⟩ dX0_told_49 (Nat.le_of_ble_eq_true rfl) (Nat.le_of_ble_eq_true rfl)
    · refine lv_iload_n hx hb dX0_told_0 rfl (lv_at hl 1 rfl) ?_
      refine lv_tableIn (tgt := 50) hx hb dX0_told_1 (by decide +kernel) (by decide +kernel) rfl (by decide) ?_
      refine lv_aload_n hx hb dX0_told_50 rfl (lv_at hl 0 rfl) ?_
      refine r_get M cdX0 hP hxo 5 (by decide) q162 (fun _ h9 => h9) rfl dX0_told_51 ?_
      exact r_iret M hr hlk hP ⟨rfl, ⟨tl, rl, pa, ya, hxo, hT, hR, hPa⟩, Kp.rf⟩ dX0_told_54 (Nat.le_of_ble_eq_true rfl) (Nat.le_of_ble_eq_true rfl)
    · refine lv_iload_n hx hb dX0_told_0 rfl (lv_at hl 1 rfl) ?_
      refine lv_tableIn (tgt := 55) hx hb dX0_told_1 (by decide +kernel) (by decide +kernel) rfl (by decide) ?_
      refine lv_aload_n hx hb dX0_told_55 rfl (lv_at hl 0 rfl) ?_
      refine r_get M cdX0 hP hxo 6 (by decide) q163 (fun _ h9 => h9) rfl dX0_told_56 ?_
      exact r_iret M hr hlk hP ⟨rfl, ⟨tl, rl, pa, ya, hxo, hT, hR, hPa⟩, Kp.rf⟩ dX0_told_59 (Nat.le_of_ble_eq_true rfl) (Nat.le_of_ble_eq_true rfl)
    · refine lv_iload_n hx hb dX0_told_0 rfl (lv_at hl 1 rfl) ?_
      refine lv_tableIn (tgt := 60) hx hb dX0_told_1 (by decide +kernel) (by decide +kernel) rfl (by decide) ?_
      refine lv_aload_n hx hb dX0_told_60 rfl (lv_at hl 0 rfl) ?_
      refine r_get M cdX0 hP hxo 7 (by decide) q164 (fun _ h9 => h9) rfl dX0_told_61 ?_
      exact r_iret M hr hlk hP ⟨rfl, ⟨tl, rl, pa, ya, hxo, hT, hR, hPa⟩, Kp.rf⟩ dX0_told_64 (Nat.le_of_ble_eq_true rfl) (Nat.le_of_ble_eq_true rfl)
    · refine lv_iload_n hx hb dX0_told_0 rfl (lv_at hl 1 rfl) ?_
      refine lv_tableIn (tgt := 65) hx hb dX0_told_1 (by decide +kernel) (by decide +kernel) rfl (by decide) ?_
      refine lv_aload_n hx hb dX0_told_65 rfl (lv_at hl 0 rfl) ?_
      refine r_get M cdX0 hP hxo 8 (by decide) q165 (fun _ h9 => h9) rfl dX0_told_66 ?_
      exact r_iret M hr hlk hP ⟨rfl, ⟨tl, rl, pa, ya, hxo, hT, hR, hPa⟩, Kp.rf⟩ dX0_told_69 (Nat.le_of_ble_eq_true rfl) (Nat.le_of_ble_eq_true rfl)
set_option maxHeartbeats 4000000 in
set_option maxRecDepth 100000 in
/-- MainframeDesk.answer(call, v) -/
theorem m_danswer {l : Launch} {s0 : State} {D : va_G} {G ad : Nat → Nat} {w : mm} (E : Bs l s0 D G ad) {x : Nat} {n : Nat} {kd : Nat → Int32} {th : Nat → Bool} {ca : Nat → Nat} {rw : Nat → List Int64} {an : Nat → Int64} {fl : Nat → Nat} {c0 c1 c2 c3 c4 c5 : Int32} (h : DK ad G w x ((n, kd, th, ca), rw, (an, fl), (c0, c1, c2, c3, c4, c5))) (hn : n ≤ 200) (q : Int32) (v : Int64) : Mt l yX0_answer cX0_answer 4 (some FieldType.int) (rmk 1 0 0 20) [.ref x, .int q, .long v] s0 D w (Qi s0 D (fun r w1 => r = (fAnswer ((n, kd, th, ca), rw, (an, fl), (c0, c1, c2, c3, c4, c5)) q v).1 ∧ DK ad G w1 x (fAnswer ((n, kd, th, ca), rw, (an, fl), (c0, c1, c2, c3, c4, c5)) q v).2 ∧ Kp MT w w1)) := by
  refine Met.go E (by decide +kernel) (Nat.le_of_ble_eq_true rfl) (fun p ev s m below meth c ls M hr hlk hnm hl hP => ?_)
  have hx := M.1.1
  have hb := M.1.2.1
  have hl : lv_has ls 4 [(0, .ref x), (1, .int q), (2, .long v)] := hl
  obtain ⟨tl, rl, pa, ya, hxo, hT, hR, hPa⟩ := h
  refine lv_iload_n hx hb dX0_answer_0 rfl (lv_at hl 1 rfl) ?_
  refine c_i (r_runS 1 M (m_isCall E q) hP (lw_S q231 q232 q12 q233) (by decide +kernel) rfl ⟨Nat.le_of_ble_eq_true rfl, Nat.le_of_ble_eq_true rfl⟩ hl.1 rfl (Nat.le_of_ble_eq_true rfl) dX0_answer_1 ⟨Nat.le_of_ble_eq_true rfl, Nat.le_of_ble_eq_true rfl⟩) hP (fun r w1 H locs hq hP => ?_)
  obtain ⟨er, ew⟩ := hq
  rw [ew] at hP
  rw [er]
  rcases pk_ix q (n := 32) (by decide) with h | h | ⟨k, hk, rfl⟩
  · rw [ixo_neg h]
    refine lv_if_ne (tgt := 9) hx hb dX0_answer_4 (by decide) (fun c9 => absurd (rfl) c9) (fun _ => ?_)
    refine lv_iconst (v := (-1)) hx hb dX0_answer_7 (by decide) ?_
    have hA : fAnswer ((n, kd, th, ca), rw, (an, fl), (c0, c1, c2, c3, c4, c5)) q v = (-1, ((n, kd, th, ca), rw, (an, fl), (c0, c1, c2, c3, c4, c5))) := by simp only [fAnswer, ixo_neg h]
    exact r_iret M hr hlk hP (by rw [hA]; exact ⟨rfl, ⟨tl, rl, pa, ya, hxo, hT, hR, hPa⟩, Kp.rf⟩) dX0_answer_8 (Nat.le_of_ble_eq_true rfl) (Nat.le_of_ble_eq_true rfl)
  · rw [ixo_ge h]
    refine lv_if_ne (tgt := 9) hx hb dX0_answer_4 (by decide) (fun c9 => absurd (rfl) c9) (fun _ => ?_)
    refine lv_iconst (v := (-1)) hx hb dX0_answer_7 (by decide) ?_
    have hA : fAnswer ((n, kd, th, ca), rw, (an, fl), (c0, c1, c2, c3, c4, c5)) q v = (-1, ((n, kd, th, ca), rw, (an, fl), (c0, c1, c2, c3, c4, c5))) := by simp only [fAnswer, ixo_ge h]
    exact r_iret M hr hlk hP (by rw [hA]; exact ⟨rfl, ⟨tl, rl, pa, ya, hxo, hT, hR, hPa⟩, Kp.rf⟩) dX0_answer_8 (Nat.le_of_ble_eq_true rfl) (Nat.le_of_ble_eq_true rfl)
  · rw [ixo_in hk (by decide)]
    refine lv_if_ne (tgt := 9) hx hb dX0_answer_4 (by decide) (fun _ => ?_) (fun c9 => absurd c9 (h10))
    obtain ⟨f, hp1, hp2⟩ := hPa
    obtain ⟨y, hf, hy⟩ := hp2 k hk
    refine lv_aload_n hx hb dX0_answer_9 rfl (lv_at hl 0 rfl) ?_
    refine r_get M cdX0 hP hxo 2 (by decide) q159 (fun _ h9 => h9) rfl dX0_answer_10 ?_
    refine lv_iload_n hx hb dX0_answer_13 rfl (lv_at hl 1 rfl) ?_
    refine r_aaldP M hP hp1 (vp_in_nI hk (by decide)) dX0_answer_14 ?_
    rw [nI_clamp (by omega), hf]
    refine lv_lload_n hx hb dX0_answer_15 rfl (lv_at hl 2 rfl) ?_
    refine r_putN (v := .long v) M cdX1 hP hy 0 (by decide) (E.fnest M.2.1 q149) (fun _ h9 => h9) rfl rfl rfl (Nat.le_of_ble_eq_true rfl) dX0_answer_16 (fun H locs hP => ?_)
    obtain ⟨w2, ew2⟩ : ∃ z : mm, z = mset w y (100 + k, oP v (nI (fl k))) := ⟨_, rfl⟩
    have hP := Px.re ew2 hP
    have hk2 : Kp (fun t => t ≠ 100 + k) w w2 := by rw [ew2]; exact Kp.put hy (fun z => z rfl)
    have hP2 : PaL G w2 pa (va_up an k v) fl := by have z := PaL.put (v := v) (c := fl k) hp1 hp2 hk hf; rw [va_up_same] at z; rw [ew2]; exact z
    refine lv_iconst (v := 1) hx hb dX0_answer_19 (by decide) ?_
    have hA : fAnswer ((n, kd, th, ca), rw, (an, fl), (c0, c1, c2, c3, c4, c5)) (nI k) v = (1, ((n, kd, th, ca), rw, (va_up an k v, fl), (c0, c1, c2, c3, c4, c5))) := by simp only [fAnswer, ixo_in hk (show 32 < 2 ^ 31 by decide)]
    exact r_iret M hr hlk hP (by rw [hA]; exact ⟨rfl, ⟨tl, rl, pa, ya, hk2 _ _ _ hxo (by omega), hT.kp hk2 (fun t ht => by omega), hR.kp (by omega) hk2 (fun t ht => by omega), hP2⟩, hk2.mono (fun t ht => by unfold MT at ht; omega)⟩) dX0_answer_20 (Nat.le_of_ble_eq_true rfl) (Nat.le_of_ble_eq_true rfl)
set_option maxHeartbeats 4000000 in
set_option maxRecDepth 100000 in
/-- MainframeDesk.fails(call, kind) -/
theorem m_dfails {l : Launch} {s0 : State} {D : va_G} {G ad : Nat → Nat} {w : mm} (E : Bs l s0 D G ad) {x : Nat} {n : Nat} {kd : Nat → Int32} {th : Nat → Bool} {ca : Nat → Nat} {rw : Nat → List Int64} {an : Nat → Int64} {fl : Nat → Nat} {c0 c1 c2 c3 c4 c5 : Int32} (h : DK ad G w x ((n, kd, th, ca), rw, (an, fl), (c0, c1, c2, c3, c4, c5))) (hn : n ≤ 200) (q u : Int32) : Mt l yX0_fails cX0_fails 4 (some FieldType.int) (rmk 1 0 0 20) [.ref x, .int q, .int u] s0 D w (Qi s0 D (fun r w1 => r = (fFails ((n, kd, th, ca), rw, (an, fl), (c0, c1, c2, c3, c4, c5)) q u).1 ∧ DK ad G w1 x (fFails ((n, kd, th, ca), rw, (an, fl), (c0, c1, c2, c3, c4, c5)) q u).2 ∧ Kp MT w w1)) := by
  refine Met.go E (by decide +kernel) (Nat.le_of_ble_eq_true rfl) (fun p ev s m below meth c ls M hr hlk hnm hl hP => ?_)
  have hx := M.1.1
  have hb := M.1.2.1
  have hl : lv_has ls 4 [(0, .ref x), (1, .int q), (2, .int u)] := hl
  obtain ⟨tl, rl, pa, ya, hxo, hT, hR, hPa⟩ := h
  refine lv_iload_n hx hb dX0_fails_0 rfl (lv_at hl 1 rfl) ?_
  refine c_i (r_runS 1 M (m_isCall E q) hP (lw_S q231 q232 q12 q233) (by decide +kernel) rfl ⟨Nat.le_of_ble_eq_true rfl, Nat.le_of_ble_eq_true rfl⟩ hl.1 rfl (Nat.le_of_ble_eq_true rfl) dX0_fails_1 ⟨Nat.le_of_ble_eq_true rfl, Nat.le_of_ble_eq_true rfl⟩) hP (fun r w1 H locs hq hP => ?_)
  obtain ⟨er, ew⟩ := hq
  rw [ew] at hP
  rw [er]
  rcases pk_ix q (n := 32) (by decide) with h | h | ⟨k, hk, rfl⟩
  · rw [ixo_neg h]
    refine lv_if_eq (tgt := 17) hx hb dX0_fails_4 (by decide) (fun _ => ?_) (fun c9 => absurd (rfl) c9)
    refine lv_iconst (v := (-1)) hx hb dX0_fails_17 (by decide) ?_
    have hA : fFails ((n, kd, th, ca), rw, (an, fl), (c0, c1, c2, c3, c4, c5)) q u = (-1, ((n, kd, th, ca), rw, (an, fl), (c0, c1, c2, c3, c4, c5))) := by simp only [fFails, ixo_neg h]
    exact r_iret M hr hlk hP (by rw [hA]; exact ⟨rfl, ⟨tl, rl, pa, ya, hxo, hT, hR, hPa⟩, Kp.rf⟩) dX0_fails_18 (Nat.le_of_ble_eq_true rfl) (Nat.le_of_ble_eq_true rfl)
  · rw [ixo_ge h]
    refine lv_if_eq (tgt := 17) hx hb dX0_fails_4 (by decide) (fun _ => ?_) (fun c9 => absurd (rfl) c9)
    refine lv_iconst (v := (-1)) hx hb dX0_fails_17 (by decide) ?_
    have hA : fFails ((n, kd, th, ca), rw, (an, fl), (c0, c1, c2, c3, c4, c5)) q u = (-1, ((n, kd, th, ca), rw, (an, fl), (c0, c1, c2, c3, c4, c5))) := by simp only [fFails, ixo_ge h]
    exact r_iret M hr hlk hP (by rw [hA]; exact ⟨rfl, ⟨tl, rl, pa, ya, hxo, hT, hR, hPa⟩, Kp.rf⟩) dX0_fails_18 (Nat.le_of_ble_eq_true rfl) (Nat.le_of_ble_eq_true rfl)
  · rw [ixo_in hk (by decide)]
    refine lv_if_eq (tgt := 17) hx hb dX0_fails_4 (by decide) (fun c9 => absurd c9 (h10)) (fun _ => ?_)
    refine lv_iload_n hx hb dX0_fails_7 rfl (lv_at hl 2 rfl) ?_
    rcases pk_ix u (n := 7) (by decide) with h | h | ⟨j, hj, rfl⟩
    · refine lv_if_lt (tgt := 17) hx hb dX0_fails_8 (by decide) (fun _ => ?_) (fun c9 => absurd (h) c9)
      refine lv_iconst (v := (-1)) hx hb dX0_fails_17 (by decide) ?_
      have hA : fFails ((n, kd, th, ca), rw, (an, fl), (c0, c1, c2, c3, c4, c5)) (nI k) u = (-1, ((n, kd, th, ca), rw, (an, fl), (c0, c1, c2, c3, c4, c5))) := by simp only [fFails, ixo_in hk (show 32 < 2 ^ 31 by decide), ixo_neg h]
      exact r_iret M hr hlk hP (by rw [hA]; exact ⟨rfl, ⟨tl, rl, pa, ya, hxo, hT, hR, hPa⟩, Kp.rf⟩) dX0_fails_18 (Nat.le_of_ble_eq_true rfl) (Nat.le_of_ble_eq_true rfl)
    · refine lv_if_lt (tgt := 17) hx hb dX0_fails_8 (by decide) (fun c9 => absurd c9 (ge_nn (by decide) h)) (fun _ => ?_)
      refine lv_iload_n hx hb dX0_fails_11 rfl (lv_at hl 2 rfl) ?_
      refine lv_bipush (v := 6) hx hb dX0_fails_12 (by decide) ?_
      refine lv_icmp_le (tgt := 19) hx hb dX0_fails_14 (by decide) (fun c9 => absurd c9 (fun z => absurd (Int32.le_trans h z) (by decide +kernel))) (fun _ => ?_)
      refine lv_iconst (v := (-1)) hx hb dX0_fails_17 (by decide) ?_
      have hA : fFails ((n, kd, th, ca), rw, (an, fl), (c0, c1, c2, c3, c4, c5)) (nI k) u = (-1, ((n, kd, th, ca), rw, (an, fl), (c0, c1, c2, c3, c4, c5))) := by simp only [fFails, ixo_in hk (show 32 < 2 ^ 31 by decide), ixo_ge h]
      exact r_iret M hr hlk hP (by rw [hA]; exact ⟨rfl, ⟨tl, rl, pa, ya, hxo, hT, hR, hPa⟩, Kp.rf⟩) dX0_fails_18 (Nat.le_of_ble_eq_true rfl) (Nat.le_of_ble_eq_true rfl)
    · refine lv_if_lt (tgt := 17) hx hb dX0_fails_8 (by decide) (fun c9 => absurd c9 (nI_pos (by omega))) (fun _ => ?_)
      refine lv_iload_n hx hb dX0_fails_11 rfl (lv_at hl 2 rfl) ?_
      refine lv_bipush (v := 6) hx hb dX0_fails_12 (by decide) ?_
      refine lv_icmp_le (tgt := 19) hx hb dX0_fails_14 (by decide) (fun _ => ?_) (fun c9 => absurd (nI_le (b := 6) (by omega) (by decide)) c9)
      obtain ⟨f, hp1, hp2⟩ := hPa
      obtain ⟨y, hf, hy⟩ := hp2 k hk
      refine lv_aload_n hx hb dX0_fails_19 rfl (lv_at hl 0 rfl) ?_
      refine r_get M cdX0 hP hxo 2 (by decide) q159 (fun _ h9 => h9) rfl dX0_fails_20 ?_
      refine lv_iload_n hx hb dX0_fails_23 rfl (lv_at hl 1 rfl) ?_
      refine r_aaldP M hP hp1 (vp_in_nI hk (by decide)) dX0_fails_24 ?_
      rw [nI_clamp (by omega), hf]
      refine r_getN M cdX1 hP hy 1 (by decide) (E.fnest M.2.1 q151) (fun _ h9 => h9) rfl dX0_fails_25 ?_
      refine lv_istore_n (lv' := [(3, .int (nI (fl k))), (0, .ref x), (1, .int (nI k)), (2, .int (nI j))]) hx hb dX0_fails_28 rfl hl (by decide) rfl (fun ls hl => ?_)
      refine lv_aload_n hx hb dX0_fails_29 rfl (lv_at hl 1 rfl) ?_
      refine r_get M cdX0 hP hxo 2 (by decide) q159 (fun _ h9 => h9) rfl dX0_fails_30 ?_
      refine lv_iload_n hx hb dX0_fails_33 rfl (lv_at hl 2 rfl) ?_
      refine r_aaldP M hP hp1 (vp_in_nI hk (by decide)) dX0_fails_34 ?_
      rw [nI_clamp (by omega), hf]
      refine lv_iload_n hx hb dX0_fails_35 rfl (lv_at hl 3 rfl) ?_
      refine r_putN (v := .int (nI j)) M cdX1 hP hy 1 (by decide) (E.fnest M.2.1 q151) (fun _ h9 => h9) rfl rfl rfl (Nat.le_of_ble_eq_true rfl) dX0_fails_36 (fun H locs hP => ?_)
      obtain ⟨w2, ew2⟩ : ∃ z : mm, z = mset w y (100 + k, oP (an k) (nI j)) := ⟨_, rfl⟩
      have hP := Px.re ew2 hP
      have hk2 : Kp (fun t => t ≠ 100 + k) w w2 := by rw [ew2]; exact Kp.put hy (fun z => z rfl)
      have hP2 : PaL G w2 pa an (va_up fl k j) := by have z := PaL.put (v := an k) (c := j) hp1 hp2 hk hf; rw [va_up_same] at z; rw [ew2]; exact z
      refine lv_iload_n hx hb dX0_fails_39 rfl (lv_at hl 0 rfl) ?_
      have hA : fFails ((n, kd, th, ca), rw, (an, fl), (c0, c1, c2, c3, c4, c5)) (nI k) (nI j) = (nI (fl k), ((n, kd, th, ca), rw, (an, va_up fl k j), (c0, c1, c2, c3, c4, c5))) := by simp only [fFails, ixo_in hk (show 32 < 2 ^ 31 by decide), ixo_in hj (show 7 < 2 ^ 31 by decide)]
      exact r_iret M hr hlk hP (by rw [hA]; exact ⟨rfl, ⟨tl, rl, pa, ya, hk2 _ _ _ hxo (by omega), hT.kp hk2 (fun t ht => by omega), hR.kp (by omega) hk2 (fun t ht => by omega), hP2⟩, hk2.mono (fun t ht => by unfold MT at ht; omega)⟩) dX0_fails_40 (Nat.le_of_ble_eq_true rfl) (Nat.le_of_ble_eq_true rfl)
set_option maxHeartbeats 4000000 in
set_option maxRecDepth 100000 in
/-- MainframeDesk.drop(number) -/
theorem m_ddrop {l : Launch} {s0 : State} {D : va_G} {G ad : Nat → Nat} {w : mm} (E : Bs l s0 D G ad) {x : Nat} {n : Nat} {kd : Nat → Int32} {th : Nat → Bool} {ca : Nat → Nat} {rw : Nat → List Int64} {an : Nat → Int64} {fl : Nat → Nat} {c0 c1 c2 c3 c4 c5 : Int32} (h : DK ad G w x ((n, kd, th, ca), rw, (an, fl), (c0, c1, c2, c3, c4, c5))) (hn : n ≤ 200) (num : Int32) : Mt l yX0_drop cX0_drop 3 (some FieldType.boolean) (rmk 4 0 0 90) [.ref x, .int num] s0 D w (Qi s0 D (fun r w1 => r = (fDrop ((n, kd, th, ca), rw, (an, fl), (c0, c1, c2, c3, c4, c5)) num).1 ∧ DK ad G w1 x (fDrop ((n, kd, th, ca), rw, (an, fl), (c0, c1, c2, c3, c4, c5)) num).2 ∧ Kp MT w w1)) := by
  refine Met.go E (by decide +kernel) (Nat.le_of_ble_eq_true rfl) (fun p ev s m below meth c ls M hr hlk hnm hl hP => ?_)
  have hx := M.1.1
  have hb := M.1.2.1
  have hl : lv_has ls 3 [(0, .ref x), (1, .int num)] := hl
  obtain ⟨tl, rl, pa, ya, hxo, hT, hR, hPa⟩ := h
  refine lv_aload_n hx hb dX0_drop_0 rfl (lv_at hl 0 rfl) ?_
  refine lv_iload_n hx hb dX0_drop_1 rfl (lv_at hl 1 rfl) ?_
  refine c_q (r_runV 1 M (m_find E hxo hT hn num) hP (Rc.of cdX0 hxo) (lw_V q268 q270 qs3 q12 q271) (by decide +kernel) rfl ⟨Nat.le_of_ble_eq_true rfl, Nat.le_of_ble_eq_true rfl⟩ hl.1 rfl (Nat.le_of_ble_eq_true rfl) dX0_drop_2 ⟨Nat.le_of_ble_eq_true rfl, Nat.le_of_ble_eq_true rfl⟩) hP (fun r w1 H locs hq hP => ?_)
  obtain ⟨hq, ew⟩ := hq
  rw [ew] at hP
  rcases hq with ⟨hi, rfl⟩ | ⟨i, st, hi, hin, hnum, rfl, hth, hst⟩
  · refine lv_astore_nN (lv' := [(2, .null), (0, .ref x), (1, .int num)]) hx hb dX0_drop_5 rfl hl (by decide) rfl (fun ls hl => ?_)
    refine lv_aload_nN hx hb dX0_drop_6 rfl (lv_at hl 0 rfl) ?_
    refine lv_ifnullN (tgt := 17) hx hb dX0_drop_7 (by decide) ?_
    refine lv_iconst (v := 0) hx hb dX0_drop_17 (by decide) ?_
    have hA : fDrop ((n, kd, th, ca), rw, (an, fl), (c0, c1, c2, c3, c4, c5)) num = (0, ((n, kd, th, ca), rw, (an, fl), (c0, c1, c2, c3, c4, c5))) := by simp only [fDrop, hi]
    exact r_zret M hr hlk hP rfl (by rw [hA]; exact ⟨rfl, ⟨tl, rl, pa, ya, hxo, hT, hR, hPa⟩, Kp.rf⟩) dX0_drop_18 (Nat.le_of_ble_eq_true rfl) (Nat.le_of_ble_eq_true rfl)
  · refine lv_astore_n (lv' := [(2, .ref (ya i)), (0, .ref x), (1, .int num)]) hx hb dX0_drop_5 rfl hl (by decide) rfl (fun ls hl => ?_)
    refine lv_aload_n hx hb dX0_drop_6 rfl (lv_at hl 0 rfl) ?_
    refine lv_ifnull hx hb dX0_drop_7 ?_
    refine lv_aload_n hx hb dX0_drop_10 rfl (lv_at hl 0 rfl) ?_
    refine c_i (r_runV 0 M (m_isThere E hth) hP (Rc.of cdX3 hth) (lw_V q272 q273 q274 q27 q275) (by decide +kernel) rfl ⟨Nat.le_of_ble_eq_true rfl, Nat.le_of_ble_eq_true rfl⟩ hl.1 rfl (Nat.le_of_ble_eq_true rfl) dX0_drop_11 ⟨Nat.le_of_ble_eq_true rfl, Nat.le_of_ble_eq_true rfl⟩) hP (fun r w2 H locs hq hP => ?_)
    obtain ⟨er, ew⟩ := hq
    rw [ew] at hP
    rw [er]
    cases hti : th i with
    | false =>
      have hs : ¬ st = G 6 := fun z => by rw [hst.mpr z] at hti; cases hti
      rw [if_neg hs]
      refine lv_if_ne (tgt := 19) hx hb dX0_drop_14 (by decide) (fun c9 => absurd (rfl) c9) (fun _ => ?_)
      refine lv_iconst (v := 0) hx hb dX0_drop_17 (by decide) ?_
      have hA : fDrop ((n, kd, th, ca), rw, (an, fl), (c0, c1, c2, c3, c4, c5)) num = (0, ((n, kd, th, ca), rw, (an, fl), (c0, c1, c2, c3, c4, c5))) := by simp only [fDrop, hi]; exact if_neg (by rw [hti]; decide)
      exact r_zret M hr hlk hP rfl (by rw [hA]; exact ⟨rfl, ⟨tl, rl, pa, ya, hxo, hT, hR, hPa⟩, Kp.rf⟩) dX0_drop_18 (Nat.le_of_ble_eq_true rfl) (Nat.le_of_ble_eq_true rfl)
    | true =>
      rw [if_pos (hst.mp hti)]
      refine lv_if_ne (tgt := 19) hx hb dX0_drop_14 (by decide) (fun _ => ?_) (fun c9 => absurd c9 (h10))
      refine lv_aload_n hx hb dX0_drop_19 rfl (lv_at hl 0 rfl) ?_
      refine r_gets M hP E.dropped q276 (fun _ h9 => h9) dX0_drop_20 ?_
      refine r_putN (v := .ref (G 7)) M cdX3 hP hth 1 (by decide) (E.fnest M.2.1 q254) (fun _ h9 => h9) rfl rfl rfl (Nat.le_of_ble_eq_true rfl) dX0_drop_23 (fun H locs hP => ?_)
      obtain ⟨w3, ew3⟩ : ∃ z : mm, z = mset w (ya i) (1000 + i, oH (kd i) (G 7) (nI (ca i))) := ⟨_, rfl⟩
      have hP := Px.re ew3 hP
      refine lv_iconst (v := 1) hx hb dX0_drop_26 (by decide) ?_
      have hk3 : Kp (fun t => t ≠ 1000 + i) w w3 := by rw [ew3]; exact Kp.put hth (fun z => z rfl)
      have hT3 : ThL G w3 tl n kd (va_up th i false) ca ya := by have z := ThL.put (c := ca i) (b := false) (st := G 7) hT hin ⟨fun z => (by cases z), fun z => absurd z.symm E.ne7⟩; rw [va_up_same] at z; rw [ew3]; exact z
      have hA : fDrop ((n, kd, th, ca), rw, (an, fl), (c0, c1, c2, c3, c4, c5)) num = (1, ((n, kd, va_up th i false, ca), rw, (an, fl), (c0, c1, c2, c3, c4, c5))) := by simp only [fDrop, hi]; exact if_pos hti
      exact r_zret M hr hlk hP rfl (by rw [hA]; exact ⟨rfl, ⟨tl, rl, pa, ya, hk3 _ _ _ hxo (by omega), hT3, hR.kp (by omega) hk3 (fun t ht => by omega), hPa.kp hk3 (fun t ht => by omega)⟩, hk3.mono (fun t ht => by unfold MT at ht; omega)⟩) dX0_drop_27 (Nat.le_of_ble_eq_true rfl) (Nat.le_of_ble_eq_true rfl)
end
section
/-! ===== the desk: collect, make, numbers, its constructor ===== -/
set_option maxHeartbeats 4000000 in
set_option maxRecDepth 100000 in
/-- MainframeDesk.collect(what, v) -/
theorem m_dcollect {l : Launch} {s0 : State} {D : va_G} {G ad : Nat → Nat} {w : mm} (E : Bs l s0 D G ad) {x : Nat} {n : Nat} {kd : Nat → Int32} {th : Nat → Bool} {ca : Nat → Nat} {rw : Nat → List Int64} {an : Nat → Int64} {fl : Nat → Nat} {c0 c1 c2 c3 c4 c5 : Int32} (h : DK ad G w x ((n, kd, th, ca), rw, (an, fl), (c0, c1, c2, c3, c4, c5))) (hn : n ≤ 200) (hlen : ∀ k, (rw k).length ≤ 50) (q : Int32) (v : Int64) : Mt l yX0_collect cX0_collect 4 (some FieldType.int) (rmk 7 2 301 180) [.ref x, .int q, .long v] s0 D w (Qi s0 D (fun r w1 => r = (fCollect ((n, kd, th, ca), rw, (an, fl), (c0, c1, c2, c3, c4, c5)) q v).1 ∧ DK ad G w1 x (fCollect ((n, kd, th, ca), rw, (an, fl), (c0, c1, c2, c3, c4, c5)) q v).2 ∧ Kp MT w w1)) := by
  refine Met.go E (by decide +kernel) (Nat.le_of_ble_eq_true rfl) (fun p ev s m below meth c ls M hr hlk hnm hl hP => ?_)
  have hx := M.1.1
  have hb := M.1.2.1
  have hl : lv_has ls 4 [(0, .ref x), (1, .int q), (2, .long v)] := hl
  obtain ⟨tl, rl, pa, ya, hxo, hT, hR, hPa⟩ := h
  rcases pk_ix q (n := 4) (by decide) with h | h | ⟨k, hk, rfl⟩
  · refine lv_iload_n hx hb dX0_collect_0 rfl (lv_at hl 1 rfl) ?_
    refine lv_if_lt (tgt := 28) hx hb dX0_collect_1 (by decide) (fun _ => ?_) (fun c9 => absurd (h) c9)
    refine lv_iconst (v := (-1)) hx hb dX0_collect_28 (by decide) ?_
    have hA : fCollect ((n, kd, th, ca), rw, (an, fl), (c0, c1, c2, c3, c4, c5)) q v = (-1, ((n, kd, th, ca), rw, (an, fl), (c0, c1, c2, c3, c4, c5))) := by simp only [fCollect, ixo_neg h]
    exact r_iret M hr hlk hP (by rw [hA]; exact ⟨rfl, ⟨tl, rl, pa, ya, hxo, hT, hR, hPa⟩, Kp.rf⟩) dX0_collect_29 (Nat.le_of_ble_eq_true rfl) (Nat.le_of_ble_eq_true rfl)
  · refine lv_iload_n hx hb dX0_collect_0 rfl (lv_at hl 1 rfl) ?_
    refine lv_if_lt (tgt := 28) hx hb dX0_collect_1 (by decide) (fun c9 => absurd c9 (ge_nn (by decide) h)) (fun _ => ?_)
    refine lv_iload_n hx hb dX0_collect_4 rfl (lv_at hl 1 rfl) ?_
    refine lv_iconst (v := 4) hx hb dX0_collect_5 (by decide) ?_
    refine lv_icmp_ge (tgt := 28) hx hb dX0_collect_6 (by decide) (fun _ => ?_) (fun c9 => absurd (h) c9)
    refine lv_iconst (v := (-1)) hx hb dX0_collect_28 (by decide) ?_
    have hA : fCollect ((n, kd, th, ca), rw, (an, fl), (c0, c1, c2, c3, c4, c5)) q v = (-1, ((n, kd, th, ca), rw, (an, fl), (c0, c1, c2, c3, c4, c5))) := by simp only [fCollect, ixo_ge h]
    exact r_iret M hr hlk hP (by rw [hA]; exact ⟨rfl, ⟨tl, rl, pa, ya, hxo, hT, hR, hPa⟩, Kp.rf⟩) dX0_collect_29 (Nat.le_of_ble_eq_true rfl) (Nat.le_of_ble_eq_true rfl)
  · refine lv_iload_n hx hb dX0_collect_0 rfl (lv_at hl 1 rfl) ?_
    refine lv_if_lt (tgt := 28) hx hb dX0_collect_1 (by decide) (fun c9 => absurd c9 (nI_pos (by omega))) (fun _ => ?_)
    refine lv_iload_n hx hb dX0_collect_4 rfl (lv_at hl 1 rfl) ?_
    refine lv_iconst (v := 4) hx hb dX0_collect_5 (by decide) ?_
    refine lv_icmp_ge (tgt := 28) hx hb dX0_collect_6 (by decide) (fun c9 => absurd c9 (nI_ge (b := 4) hk (by decide))) (fun _ => ?_)
    have hR0 := hR
    obtain ⟨mod, e, f, hL, hB, hv⟩ := hR
    obtain ⟨y, hf, hRw⟩ := hv k hk
    obtain ⟨rm, re, rf, hrL, hrB, hrv⟩ := hRw
    have hl5 := hlen k
    refine lv_aload_n hx hb dX0_collect_9 rfl (lv_at hl 0 rfl) ?_
    refine r_get M cdX0 hP hxo 1 (by decide) q158 (fun _ h9 => h9) rfl dX0_collect_10 ?_
    refine lv_iload_n hx hb dX0_collect_13 rfl (lv_at hl 1 rfl) ?_
    refine c_r (r_runV 1 M (m_getL E hL hB hk hf) hP (Rc.of cdJ2 hL) (lw_V q189 q190 q191 q15 q192) (by decide +kernel) rfl ⟨Nat.le_of_ble_eq_true rfl, Nat.le_of_ble_eq_true rfl⟩ hl.1 rfl (Nat.le_of_ble_eq_true rfl) dX0_collect_14 ⟨Nat.le_of_ble_eq_true rfl, Nat.le_of_ble_eq_true rfl⟩) hP (fun r w9 H locs hq hP => ?_)
    obtain ⟨er, ew⟩ := hq
    rw [ew] at hP
    rw [er]
    refine r_cast M hP cdJ2 (Rc.of cdJ2 hrL) q51 dX0_collect_17 ?_
    refine c_i (r_runV 0 M (m_size E hrL) hP (Rc.of cdJ2 hrL) (lw_V q203 q204 q205 q15 q206) (by decide +kernel) rfl ⟨Nat.le_of_ble_eq_true rfl, Nat.le_of_ble_eq_true rfl⟩ hl.1 rfl (Nat.le_of_ble_eq_true rfl) dX0_collect_20 ⟨Nat.le_of_ble_eq_true rfl, Nat.le_of_ble_eq_true rfl⟩) hP (fun r w9 H locs hq hP => ?_)
    obtain ⟨er, ew⟩ := hq
    rw [ew] at hP
    rw [er]
    refine lv_bipush (v := 50) hx hb dX0_collect_23 (by decide) ?_
    by_cases h50 : (rw k).length = 50
    · refine lv_icmp_ne (tgt := 30) hx hb dX0_collect_25 (by decide) (fun c9 => absurd (by rw [h50]; decide +kernel) c9) (fun _ => ?_)
      refine lv_iconst (v := (-1)) hx hb dX0_collect_28 (by decide) ?_
      have hA : fCollect ((n, kd, th, ca), rw, (an, fl), (c0, c1, c2, c3, c4, c5)) (nI k) v = (-1, ((n, kd, th, ca), rw, (an, fl), (c0, c1, c2, c3, c4, c5))) := by simp only [fCollect, ixo_in hk (show 4 < 2 ^ 31 by decide)]; exact if_pos h50
      exact r_iret M hr hlk hP (by rw [hA]; exact ⟨rfl, ⟨tl, rl, pa, ya, hxo, hT, hR0, hPa⟩, Kp.rf⟩) dX0_collect_29 (Nat.le_of_ble_eq_true rfl) (Nat.le_of_ble_eq_true rfl)
    · refine lv_icmp_ne (tgt := 30) hx hb dX0_collect_25 (by decide) (fun _ => ?_) (fun c9 => absurd c9 (fun z => h50 ((nI_eq (b := 50) (by omega) (by decide)).mp z)))
      refine lv_aload_n hx hb dX0_collect_30 rfl (lv_at hl 0 rfl) ?_
      refine r_get M cdX0 hP hxo 1 (by decide) q158 (fun _ h9 => h9) rfl dX0_collect_31 ?_
      refine lv_iload_n hx hb dX0_collect_34 rfl (lv_at hl 1 rfl) ?_
      refine c_r (r_runV 1 M (m_getL E hL hB hk hf) hP (Rc.of cdJ2 hL) (lw_V q189 q190 q191 q15 q192) (by decide +kernel) rfl ⟨Nat.le_of_ble_eq_true rfl, Nat.le_of_ble_eq_true rfl⟩ hl.1 rfl (Nat.le_of_ble_eq_true rfl) dX0_collect_35 ⟨Nat.le_of_ble_eq_true rfl, Nat.le_of_ble_eq_true rfl⟩) hP (fun r w9 H locs hq hP => ?_)
      obtain ⟨er, ew⟩ := hq
      rw [ew] at hP
      rw [er]
      refine r_cast M hP cdJ2 (Rc.of cdJ2 hrL) q51 dX0_collect_38 ?_
      refine lv_lload_n hx hb dX0_collect_41 rfl (lv_at hl 2 rfl) ?_
      refine c_r (r_runS 1 M (m_valueOf E v 7) hP (lw_S q207 q208 q25 q209) (by decide +kernel) rfl ⟨Nat.le_of_ble_eq_true rfl, Nat.le_of_ble_eq_true rfl⟩ hl.1 rfl (Nat.le_of_ble_eq_true rfl) dX0_collect_42 ⟨Nat.le_of_ble_eq_true rfl, Nat.le_of_ble_eq_true rfl⟩) hP (fun bx w1 H locs hq hP => ?_)
      obtain ⟨hk1, hbx⟩ : Kp (fun _ => True) w w1 ∧ BX ad w1 bx v := by
        rcases hq with ⟨hz, rfl⟩ | ⟨hz, rfl⟩
        · exact ⟨Kp.rf, Or.inr hz⟩
        · exact ⟨Kp.new hz, Or.inl (mset_self ..)⟩
      have hxo1 := hk1 _ _ _ hxo trivial
      have hL1 := hk1 _ _ _ hL trivial
      have hB1 := hB.kp hk1 trivial
      have hrL1 := hk1 _ _ _ hrL trivial
      have hrB1 := hrB.kp hk1 trivial
      have hrv1 : ∀ (i : Nat) (v : Int64), (rw k)[i]? = some v → ∃ y : Nat, rf i = some y ∧ BX ad w1 y v := fun i u hu => (hrv i u hu).elim fun z hz => ⟨z, hz.1, hz.2.kp hk1 trivial⟩
      have hv1 : ∀ j, j < 4 → ∃ y : Nat, f j = some y ∧ Rw ad G w1 y (20 + j) (30 + j) (rw j) := fun j hj => (hv j hj).elim fun z hz => ⟨z, hz.1, hz.2.kp hk1 trivial trivial trivial⟩
      refine c_i (r_runV 1 M (m_add E hrL1 hrB1 (Rw.el E hrv1) q664 (by omega) (by omega) (hbx.bl.rc E)) hP (Rc.of cdJ2 hrL1) (lw_V q82 q83 q84 q15 q85) (by decide +kernel) rfl ⟨Nat.le_of_ble_eq_true rfl, Nat.le_of_ble_eq_true rfl⟩ hl.1 rfl (Nat.le_of_ble_eq_true rfl) dX0_collect_45 ⟨Nat.le_of_ble_eq_true rfl, Nat.le_of_ble_eq_true rfl⟩) hP (fun r w2 H locs hq hP => ?_)
      obtain ⟨er, hA⟩ := hq
      have hA0 := hA
      obtain ⟨e1, cap, f1, a1, a2, a3, a4, a5, a6, hk2⟩ := hA
      refine lv_pop hx hb dX0_collect_48 rfl ?_
      have hxo2 := hk2 _ _ _ hxo1 (by omega)
      have hL2 := hk2 _ _ _ hL1 (by omega)
      have hB2 := hB1.kp hk2 (by omega)
      have hrL2 := a3
      refine lv_aload_n hx hb dX0_collect_49 rfl (lv_at hl 0 rfl) ?_
      refine r_get M cdX0 hP hxo2 1 (by decide) q158 (fun _ h9 => h9) rfl dX0_collect_50 ?_
      refine lv_iload_n hx hb dX0_collect_53 rfl (lv_at hl 1 rfl) ?_
      refine c_r (r_runV 1 M (m_getL E hL2 hB2 hk hf) hP (Rc.of cdJ2 hL2) (lw_V q189 q190 q191 q15 q192) (by decide +kernel) rfl ⟨Nat.le_of_ble_eq_true rfl, Nat.le_of_ble_eq_true rfl⟩ hl.1 rfl (Nat.le_of_ble_eq_true rfl) dX0_collect_54 ⟨Nat.le_of_ble_eq_true rfl, Nat.le_of_ble_eq_true rfl⟩) hP (fun r w9 H locs hq hP => ?_)
      obtain ⟨er, ew⟩ := hq
      rw [ew] at hP
      rw [er]
      refine r_cast M hP cdJ2 (Rc.of cdJ2 hrL2) q51 dX0_collect_57 ?_
      refine c_i (r_runV 0 M (m_size E hrL2) hP (Rc.of cdJ2 hrL2) (lw_V q203 q204 q205 q15 q206) (by decide +kernel) rfl ⟨Nat.le_of_ble_eq_true rfl, Nat.le_of_ble_eq_true rfl⟩ hl.1 rfl (Nat.le_of_ble_eq_true rfl) dX0_collect_60 ⟨Nat.le_of_ble_eq_true rfl, Nat.le_of_ble_eq_true rfl⟩) hP (fun r w9 H locs hq hP => ?_)
      obtain ⟨er, ew⟩ := hq
      rw [ew] at hP
      rw [er]
      have hRn : RwL ad G w2 rl 4 (va_up rw k (rw k ++ [v])) := RwL.put hL1 hB1 hv1 (by omega) hk hf hk2 (Rw.add hrv1 hbx hA0 (by omega))
      have hk3 : Kp (fun t => t ≠ 20 + k ∧ t ≠ 30 + k) w w2 := (hk1.mono (fun _ _ => trivial)).tr hk2
      have hA : fCollect ((n, kd, th, ca), rw, (an, fl), (c0, c1, c2, c3, c4, c5)) (nI k) v = (nI ((rw k).length + 1), ((n, kd, th, ca), va_up rw k (rw k ++ [v]), (an, fl), (c0, c1, c2, c3, c4, c5))) := by simp only [fCollect, ixo_in hk (show 4 < 2 ^ 31 by decide)]; exact if_neg h50
      exact r_iret M hr hlk hP (by rw [hA]; exact ⟨rfl, ⟨tl, rl, pa, ya, hxo2, hT.kp hk3 (fun t ht => by omega), hRn, hPa.kp hk3 (fun t ht => by omega)⟩, hk3.mono (fun t ht => by unfold MT at ht; omega)⟩) dX0_collect_63 (Nat.le_of_ble_eq_true rfl) (Nat.le_of_ble_eq_true rfl)
set_option maxHeartbeats 4000000 in
set_option maxRecDepth 100000 in
/-- MainframeDesk.make(kind) -/
theorem m_dmake {l : Launch} {s0 : State} {D : va_G} {G ad : Nat → Nat} {w : mm} (E : Bs l s0 D G ad) {x : Nat} {n : Nat} {kd : Nat → Int32} {th : Nat → Bool} {ca : Nat → Nat} {rw : Nat → List Int64} {an : Nat → Int64} {fl : Nat → Nat} {c0 c1 c2 c3 c4 c5 : Int32} (h : DK ad G w x ((n, kd, th, ca), rw, (an, fl), (c0, c1, c2, c3, c4, c5))) (hn : n ≤ 200) (q : Int32) : Mt l yX0_make cX0_make 2 (some FieldType.int) (rmk 7 2 303 180) [.ref x, .int q] s0 D w (Qi s0 D (fun r w1 => r = (fMake ((n, kd, th, ca), rw, (an, fl), (c0, c1, c2, c3, c4, c5)) q).1 ∧ DK ad G w1 x (fMake ((n, kd, th, ca), rw, (an, fl), (c0, c1, c2, c3, c4, c5)) q).2 ∧ Kp MT w w1)) := by
  refine Met.go E (by decide +kernel) (Nat.le_of_ble_eq_true rfl) (fun p ev s m below meth c ls M hr hlk hnm hl hP => ?_)
  have hx := M.1.1
  have hb := M.1.2.1
  have hl : lv_has ls 2 [(0, .ref x), (1, .int q)] := hl
  obtain ⟨tl, rl, pa, ya, hxo, hT, hR, hPa⟩ := h
  rcases pk_ix q (n := 8) (by decide) with h | h | ⟨k, hk, rfl⟩
  · refine lv_iload_n hx hb dX0_make_0 rfl (lv_at hl 1 rfl) ?_
    refine lv_if_lt (tgt := 23) hx hb dX0_make_1 (by decide) (fun _ => ?_) (fun c9 => absurd (h) c9)
    refine lv_iconst (v := (-1)) hx hb dX0_make_23 (by decide) ?_
    have hA : fMake ((n, kd, th, ca), rw, (an, fl), (c0, c1, c2, c3, c4, c5)) q = (-1, ((n, kd, th, ca), rw, (an, fl), (c0, c1, c2, c3, c4, c5))) := by simp only [fMake, ixo_neg h]
    exact r_iret M hr hlk hP (by rw [hA]; exact ⟨rfl, ⟨tl, rl, pa, ya, hxo, hT, hR, hPa⟩, Kp.rf⟩) dX0_make_24 (Nat.le_of_ble_eq_true rfl) (Nat.le_of_ble_eq_true rfl)
  · refine lv_iload_n hx hb dX0_make_0 rfl (lv_at hl 1 rfl) ?_
    refine lv_if_lt (tgt := 23) hx hb dX0_make_1 (by decide) (fun c9 => absurd c9 (ge_nn (by decide) h)) (fun _ => ?_)
    refine lv_iload_n hx hb dX0_make_4 rfl (lv_at hl 1 rfl) ?_
    refine lv_bipush (v := 8) hx hb dX0_make_5 (by decide) ?_
    refine lv_icmp_ge (tgt := 23) hx hb dX0_make_7 (by decide) (fun _ => ?_) (fun c9 => absurd (h) c9)
    refine lv_iconst (v := (-1)) hx hb dX0_make_23 (by decide) ?_
    have hA : fMake ((n, kd, th, ca), rw, (an, fl), (c0, c1, c2, c3, c4, c5)) q = (-1, ((n, kd, th, ca), rw, (an, fl), (c0, c1, c2, c3, c4, c5))) := by simp only [fMake, ixo_ge h]
    exact r_iret M hr hlk hP (by rw [hA]; exact ⟨rfl, ⟨tl, rl, pa, ya, hxo, hT, hR, hPa⟩, Kp.rf⟩) dX0_make_24 (Nat.le_of_ble_eq_true rfl) (Nat.le_of_ble_eq_true rfl)
  · refine lv_iload_n hx hb dX0_make_0 rfl (lv_at hl 1 rfl) ?_
    refine lv_if_lt (tgt := 23) hx hb dX0_make_1 (by decide) (fun c9 => absurd c9 (nI_pos (by omega))) (fun _ => ?_)
    refine lv_iload_n hx hb dX0_make_4 rfl (lv_at hl 1 rfl) ?_
    refine lv_bipush (v := 8) hx hb dX0_make_5 (by decide) ?_
    refine lv_icmp_ge (tgt := 23) hx hb dX0_make_7 (by decide) (fun c9 => absurd c9 (nI_ge (b := 8) hk (by decide))) (fun _ => ?_)
    have hT0 := hT
    obtain ⟨mod, e, f, hL, hB, hv⟩ := hT
    refine lv_aload_n hx hb dX0_make_10 rfl (lv_at hl 0 rfl) ?_
    refine r_get M cdX0 hP hxo 0 (by decide) q157 (fun _ h9 => h9) rfl dX0_make_11 ?_
    refine c_i (r_runV 0 M (m_size E hL) hP (Rc.of cdJ2 hL) (lw_V q203 q204 q205 q15 q206) (by decide +kernel) rfl ⟨Nat.le_of_ble_eq_true rfl, Nat.le_of_ble_eq_true rfl⟩ hl.1 rfl (Nat.le_of_ble_eq_true rfl) dX0_make_14 ⟨Nat.le_of_ble_eq_true rfl, Nat.le_of_ble_eq_true rfl⟩) hP (fun r w9 H locs hq hP => ?_)
    obtain ⟨er, ew⟩ := hq
    rw [ew] at hP
    rw [er]
    refine lv_sipush (v := 200) hx hb dX0_make_17 (by decide) ?_
    by_cases h2 : n = 200
    · refine lv_icmp_ne (tgt := 25) hx hb dX0_make_20 (by decide) (fun c9 => absurd (by rw [h2]; decide +kernel) c9) (fun _ => ?_)
      refine lv_iconst (v := (-1)) hx hb dX0_make_23 (by decide) ?_
      have hA : fMake ((n, kd, th, ca), rw, (an, fl), (c0, c1, c2, c3, c4, c5)) (nI k) = (-1, ((n, kd, th, ca), rw, (an, fl), (c0, c1, c2, c3, c4, c5))) := by simp only [fMake, ixo_in hk (show 8 < 2 ^ 31 by decide)]; exact if_pos h2
      exact r_iret M hr hlk hP (by rw [hA]; exact ⟨rfl, ⟨tl, rl, pa, ya, hxo, hT0, hR, hPa⟩, Kp.rf⟩) dX0_make_24 (Nat.le_of_ble_eq_true rfl) (Nat.le_of_ble_eq_true rfl)
    · refine lv_icmp_ne (tgt := 25) hx hb dX0_make_20 (by decide) (fun _ => ?_) (fun c9 => absurd c9 (fun z => h2 ((nI_eq (b := 200) (by omega) (by decide)).mp z)))
      refine lv_aload_n hx hb dX0_make_25 rfl (lv_at hl 0 rfl) ?_
      refine r_get M cdX0 hP hxo 0 (by decide) q157 (fun _ h9 => h9) rfl dX0_make_26 ?_
      refine r_new M (fs := [.int 0, .null, .int 0]) (1000 + n) cdX3 hP q242 q243 q27 (fun j hj => by (first | (have : j = 0 := by omega) | skip); revert j; decide) (Nat.le_of_ble_eq_true rfl) (Nat.le_of_ble_eq_true rfl) dX0_make_29 (fun y H ny hP => ?_)
      obtain ⟨w1, ew1⟩ : ∃ z : mm, z = mset w y ((1000 + n), .inr (3, [.int 0, .null, .int 0])) := ⟨_, rfl⟩
      have hP := Px.re ew1 hP
      have hk1 : Kp (fun _ => True) w w1 := by rw [ew1]; exact Kp.new ny
      have hy1 : w1 y = some (1000 + n, .inr (3, [.int 0, .null, .int 0])) := by rw [ew1]; exact mset_self ..
      refine lv_dup hx hb dX0_make_32 rfl ?_
      refine lv_iload_n hx hb dX0_make_33 rfl (lv_at hl 1 rfl) ?_
      refine c_v (r_runI 1 M (m_tinit E (nI k) hy1) hP q246 q27 q244 q245 rfl (by decide +kernel) rfl ⟨Nat.le_of_ble_eq_true rfl, Nat.le_of_ble_eq_true rfl⟩ hl.1 rfl (Nat.le_of_ble_eq_true rfl) dX0_make_34 ⟨Nat.le_of_ble_eq_true rfl, Nat.le_of_ble_eq_true rfl⟩) hP (fun w2 H locs hq hP => ?_)
      have hk2 : Kp (fun t => t ≠ 1000 + n) w w2 := (hk1.mono (fun _ _ => trivial)).tr (by rw [hq]; exact Kp.put hy1 (fun z => z rfl))
      have hy2 : w2 y = some (1000 + n, oH (nI k) (G 6) 0) := by rw [hq]; exact mset_self ..
      have hv2 : ∀ i, i < n → f i = some (ya i) ∧ ∃ st : Nat, w2 (ya i) = some (1000 + i, oH (kd i) st (nI (ca i))) ∧ (th i = true ↔ st = G 6) := fun i hi => by
        obtain ⟨g1, st, g2, g3⟩ := hv i hi
        exact ⟨g1, st, hk2 _ _ _ g2 (by omega), g3⟩
      have hel : ∀ i, i < n → ∀ z, f i = some z → Rc s0 w2 z "MainframeDesk$Thing" := fun i hi z hz => by
        obtain ⟨g1, st, g2, g3⟩ := hv2 i hi
        cases hz.symm.trans g1
        exact Rc.of cdX3 g2
      have hL2 := hk2 _ _ _ hL (by omega)
      have hB2 := hB.kp hk2 (by omega)
      refine c_i (r_runV 1 M (m_add E hL2 hB2 hel q665 (by omega) (by omega) (Rc.of cdX3 hy2)) hP (Rc.of cdJ2 hL2) (lw_V q82 q83 q84 q15 q85) (by decide +kernel) rfl ⟨Nat.le_of_ble_eq_true rfl, Nat.le_of_ble_eq_true rfl⟩ hl.1 rfl (Nat.le_of_ble_eq_true rfl) dX0_make_37 ⟨Nat.le_of_ble_eq_true rfl, Nat.le_of_ble_eq_true rfl⟩) hP (fun r w3 H locs hq hP => ?_)
      obtain ⟨er, hA⟩ := hq
      have hA0 := hA
      obtain ⟨e1, cap, f1, a1, a2, a3, a4, a5, a6, hk3⟩ := hA
      refine lv_pop hx hb dX0_make_40 rfl ?_
      have hk4 : Kp (fun t => t ≠ 1000 + n ∧ t ≠ 2 ∧ t ≠ 3) w w3 := (hk2.mono (fun _ z => z.1)).tr (hk3.mono (fun _ z => z.2))
      have hxo3 := hk4 _ _ _ hxo (by omega)
      refine lv_aload_n hx hb dX0_make_41 rfl (lv_at hl 0 rfl) ?_
      refine r_get M cdX0 hP hxo3 0 (by decide) q157 (fun _ h9 => h9) rfl dX0_make_42 ?_
      refine c_i (r_runV 0 M (m_size E a3) hP (Rc.of cdJ2 a3) (lw_V q203 q204 q205 q15 q206) (by decide +kernel) rfl ⟨Nat.le_of_ble_eq_true rfl, Nat.le_of_ble_eq_true rfl⟩ hl.1 rfl (Nat.le_of_ble_eq_true rfl) dX0_make_45 ⟨Nat.le_of_ble_eq_true rfl, Nat.le_of_ble_eq_true rfl⟩) hP (fun r w9 H locs hq hP => ?_)
      obtain ⟨er, ew⟩ := hq
      rw [ew] at hP
      rw [er]
      have hA : fMake ((n, kd, th, ca), rw, (an, fl), (c0, c1, c2, c3, c4, c5)) (nI k) = (nI (n + 1), ((n + 1, va_up kd n (nI k), va_up th n true, va_up ca n 0), rw, (an, fl), (c0, c1, c2, c3, c4, c5))) := by simp only [fMake, ixo_in hk (show 8 < 2 ^ 31 by decide)]; exact if_neg h2
      exact r_iret M hr hlk hP (by rw [hA]; exact ⟨rfl, ⟨tl, rl, pa, va_up ya n y, hxo3, ThL.add hv2 hy2 hA0, hR.kp (by omega) hk4 (fun t ht => by omega), hPa.kp hk4 (fun t ht => by omega)⟩, hk4.mono (fun t ht => by unfold MT at ht; omega)⟩) dX0_make_48 (Nat.le_of_ble_eq_true rfl) (Nat.le_of_ble_eq_true rfl)
set_option maxHeartbeats 4000000 in
set_option maxRecDepth 100000 in
/-- MainframeDesk.numbers(kind) -/
theorem m_dnumbers {l : Launch} {s0 : State} {D : va_G} {G ad : Nat → Nat} {w : mm} (E : Bs l s0 D G ad) {x : Nat} {n : Nat} {kd : Nat → Int32} {th : Nat → Bool} {ca : Nat → Nat} {rw : Nat → List Int64} {an : Nat → Int64} {fl : Nat → Nat} {c0 c1 c2 c3 c4 c5 : Int32} (h : DK ad G w x ((n, kd, th, ca), rw, (an, fl), (c0, c1, c2, c3, c4, c5))) (hn : n ≤ 200) (q : Int32) : Mt l yX0_numbers cX0_numbers 5 (some FieldType.int) (rmk 3 1 4 60) [.ref x, .int q] s0 D w (Qi s0 D (fun r w1 => r = fNumbers ((n, kd, th, ca), rw, (an, fl), (c0, c1, c2, c3, c4, c5)) q ∧ DK ad G w1 x ((n, kd, th, ca), rw, (an, fl), (c0, c1, c2, c3, c4, c5)) ∧ Kp MT w w1)) := by
  refine Met.go E (by decide +kernel) (Nat.le_of_ble_eq_true rfl) (fun p ev s m below meth c ls M hr hlk hnm hl hP => ?_)
  have hx := M.1.1
  have hb := M.1.2.1
  have hl : lv_has ls 5 [(0, .ref x), (1, .int q)] := hl
  obtain ⟨tl, rl, pa, ya, hxo, hT, hR, hPa⟩ := h
  rcases pk_ix q (n := 8) (by decide) with h | h | ⟨k, hk, rfl⟩
  · refine lv_iload_n hx hb dX0_numbers_0 rfl (lv_at hl 1 rfl) ?_
    refine lv_if_lt (tgt := 10) hx hb dX0_numbers_1 (by decide) (fun _ => ?_) (fun c9 => absurd (h) c9)
    refine lv_iconst (v := (-1)) hx hb dX0_numbers_10 (by decide) ?_
    exact r_iret M hr hlk hP ⟨by simp only [fNumbers, ixo_neg h], ⟨tl, rl, pa, ya, hxo, hT, hR, hPa⟩, Kp.rf⟩ dX0_numbers_11 (Nat.le_of_ble_eq_true rfl) (Nat.le_of_ble_eq_true rfl)
  · refine lv_iload_n hx hb dX0_numbers_0 rfl (lv_at hl 1 rfl) ?_
    refine lv_if_lt (tgt := 10) hx hb dX0_numbers_1 (by decide) (fun c9 => absurd c9 (ge_nn (by decide) h)) (fun _ => ?_)
    refine lv_iload_n hx hb dX0_numbers_4 rfl (lv_at hl 1 rfl) ?_
    refine lv_bipush (v := 8) hx hb dX0_numbers_5 (by decide) ?_
    refine lv_icmp_lt (tgt := 12) hx hb dX0_numbers_7 (by decide) (fun c9 => absurd c9 (Int32.not_lt.mpr h)) (fun _ => ?_)
    refine lv_iconst (v := (-1)) hx hb dX0_numbers_10 (by decide) ?_
    exact r_iret M hr hlk hP ⟨by simp only [fNumbers, ixo_ge h], ⟨tl, rl, pa, ya, hxo, hT, hR, hPa⟩, Kp.rf⟩ dX0_numbers_11 (Nat.le_of_ble_eq_true rfl) (Nat.le_of_ble_eq_true rfl)
  · refine lv_iload_n hx hb dX0_numbers_0 rfl (lv_at hl 1 rfl) ?_
    refine lv_if_lt (tgt := 10) hx hb dX0_numbers_1 (by decide) (fun c9 => absurd c9 (nI_pos (by omega))) (fun _ => ?_)
    refine lv_iload_n hx hb dX0_numbers_4 rfl (lv_at hl 1 rfl) ?_
    refine lv_bipush (v := 8) hx hb dX0_numbers_5 (by decide) ?_
    refine lv_icmp_lt (tgt := 12) hx hb dX0_numbers_7 (by decide) (fun _ => ?_) (fun c9 => absurd (nI_lt (b := 8) hk (by decide)) c9)
    have hT0 := hT
    obtain ⟨mod, e, f, hL, hB, hv⟩ := hT
    refine lv_iconst (v := 0) hx hb dX0_numbers_12 (by decide) ?_
    refine lv_istore_n (lv' := [(2, .int 0), (0, .ref x), (1, .int (nI k))]) hx hb dX0_numbers_13 rfl hl (by decide) rfl (fun ls hl => ?_)
    refine lv_aload_n hx hb dX0_numbers_14 rfl (lv_at hl 1 rfl) ?_
    refine r_get M cdX0 hP hxo 0 (by decide) q157 (fun _ h9 => h9) rfl dX0_numbers_15 ?_
    refine c_r (r_runV 0 M (m_iterator E 0 hL) hP (Rc.of cdJ2 hL) (lw_V q544 q475 q476 q15 q477) (by decide +kernel) rfl ⟨Nat.le_of_ble_eq_true rfl, Nat.le_of_ble_eq_true rfl⟩ hl.1 rfl (Nat.le_of_ble_eq_true rfl) dX0_numbers_18 ⟨Nat.le_of_ble_eq_true rfl, Nat.le_of_ble_eq_true rfl⟩) hP (fun it w1 H locs hq hP => ?_)
    obtain ⟨nq, ew1⟩ := hq
    rw [ew1] at hP
    refine lv_astore_n (lv' := [(3, .ref it), (2, .int 0), (0, .ref x), (1, .int (nI k))]) hx hb dX0_numbers_21 rfl hl (by decide) rfl (fun ls hl => ?_)
    have loop : ∀ (j i : Nat) (last : Int32) (H : Heap) (locs : List Loc) (ls : Array Slot), i + j = n → Px s0 D (mset w it (0, oT (nI i) last mod tl)) H locs → lv_has ls 5 [(3, .ref it), (2, .int (cnt kd th (nI k) i)), (0, .ref x), (1, .int (nI k))] → W p l ev (rmk 3 1 4 60) s m #[Value.ref x, Value.int (nI k)] below meth c H locs 1 4 (MQ below (Qi s0 D (fun r w1 => r = fNumbers ((n, kd, th, ca), rw, (an, fl), (c0, c1, c2, c3, c4, c5)) (nI k) ∧ DK ad G w1 x ((n, kd, th, ca), rw, (an, fl), (c0, c1, c2, c3, c4, c5)) ∧ Kp MT w w1)) #[Value.ref x, Value.int (nI k)] s 1 4 (Fr s0)) (F0 m 22 ls []) := by
      intro j
      induction j with
      | zero =>
        intro i last H locs ls hij hP hl
        have hIt : mset w it (0, oT (nI i) last mod tl) it = some (0, oT (nI i) last mod tl) := mset_self ..
        have hL1 : mset w it (0, oT (nI i) last mod tl) tl = some (2, oL mod e n) := by rw [mset_ne _ _ (mm_nn hL nq)]; exact hL
        refine lv_aload_n hx hb dX0_numbers_22 rfl (lv_at hl 0 rfl) ?_
        refine c5_i (r_runF 0 M cdJ21 (m_hasNext E hL1 hIt (by omega) (by omega)) hP (Rc.of cdJ21 hIt) q546 q502 q504 q42 q506 (E.face M.2.1 (by decide) q500 q499 q505 q503 q501) (by decide +kernel) rfl ⟨Nat.le_of_ble_eq_true rfl, Nat.le_of_ble_eq_true rfl⟩ hl.1 rfl (Nat.le_of_ble_eq_true rfl) dX0_numbers_23 ⟨Nat.le_of_ble_eq_true rfl, Nat.le_of_ble_eq_true rfl⟩) hP (fun r w2 H locs hq hP => ?_)
        obtain ⟨er, ew⟩ := hq
        rw [ew] at hP
        rw [er]
        have hi : i = n := by omega
        rw [if_pos hi]
        refine lv_if_eq (tgt := 70) hx hb dX0_numbers_28 (by decide) (fun _ => ?_) (fun c9 => absurd (rfl) c9)
        refine lv_iload_n hx hb dX0_numbers_70 rfl (lv_at hl 1 rfl) ?_
        rw [hi]
        exact r_iret M hr hlk (hP.drop nq) ⟨by simp only [fNumbers, ixo_in hk (show 8 < 2 ^ 31 by decide)], ⟨tl, rl, pa, ya, hxo, hT0, hR, hPa⟩, Kp.rf⟩ dX0_numbers_71 (Nat.le_of_ble_eq_true rfl) (Nat.le_of_ble_eq_true rfl)
      | succ j ih =>
        intro i last H locs ls hij hP hl
        have hIt : mset w it (0, oT (nI i) last mod tl) it = some (0, oT (nI i) last mod tl) := mset_self ..
        have hL1 : mset w it (0, oT (nI i) last mod tl) tl = some (2, oL mod e n) := by rw [mset_ne _ _ (mm_nn hL nq)]; exact hL
        refine lv_aload_n hx hb dX0_numbers_22 rfl (lv_at hl 0 rfl) ?_
        refine c5_i (r_runF 0 M cdJ21 (m_hasNext E hL1 hIt (by omega) (by omega)) hP (Rc.of cdJ21 hIt) q546 q502 q504 q42 q506 (E.face M.2.1 (by decide) q500 q499 q505 q503 q501) (by decide +kernel) rfl ⟨Nat.le_of_ble_eq_true rfl, Nat.le_of_ble_eq_true rfl⟩ hl.1 rfl (Nat.le_of_ble_eq_true rfl) dX0_numbers_23 ⟨Nat.le_of_ble_eq_true rfl, Nat.le_of_ble_eq_true rfl⟩) hP (fun r w2 H locs hq hP => ?_)
        obtain ⟨er, ew⟩ := hq
        rw [ew] at hP
        rw [er]
        have hi : i < n := by omega
        rw [if_neg (by omega)]
        refine lv_if_eq (tgt := 70) hx hb dX0_numbers_28 (by decide) (fun c9 => absurd c9 (h10)) (fun _ => ?_)
        obtain ⟨hfi, st, hth, hst⟩ := hv i hi
        rcases hB with ⟨-, hz⟩ | ⟨cap, g1, g2, g3, he⟩
        · omega
        have he1 : mset w it (0, oT (nI i) last mod tl) e = some (3, eO G cap f) := by rw [mset_ne _ _ (mm_nn he nq)]; exact he
        refine lv_aload_n hx hb dX0_numbers_31 rfl (lv_at hl 0 rfl) ?_
        refine c5_r (r_runF 0 M cdJ21 (m_next E hL1 hIt he1 hi g1 g2 hfi) hP (Rc.of cdJ21 hIt) q548 q511 q513 q42 q515 (E.face M.2.1 (by decide) q510 q509 q514 q512 q501) (by decide +kernel) rfl ⟨Nat.le_of_ble_eq_true rfl, Nat.le_of_ble_eq_true rfl⟩ hl.1 rfl (Nat.le_of_ble_eq_true rfl) dX0_numbers_32 ⟨Nat.le_of_ble_eq_true rfl, Nat.le_of_ble_eq_true rfl⟩) hP (fun r w3 H locs hq hP => ?_)
        obtain ⟨er, ew⟩ := hq
        rw [ew, mset_mset] at hP
        rw [er]
        have hth1 : mset w it (0, oT (nI (i + 1)) (nI i) mod tl) (ya i) = some (1000 + i, oH (kd i) st (nI (ca i))) := by rw [mset_ne _ _ (mm_nn hth nq)]; exact hth
        refine r_cast M hP cdX3 (Rc.of cdX3 hth1) q242 dX0_numbers_37 ?_
        refine lv_astore (lv' := [(4, .ref (ya i)), (3, .ref it), (2, .int (cnt kd th (nI k) i)), (0, .ref x), (1, .int (nI k))]) hx hb dX0_numbers_40 hl (by decide) rfl (fun ls hl => ?_)
        refine lv_iload_n hx hb dX0_numbers_42 rfl (lv_at hl 2 rfl) ?_
        refine lv_aload hx hb dX0_numbers_43 (lv_at hl 0 rfl) ?_
        refine r_getN M cdX3 hP hth1 0 (by decide) (E.fnest M.2.1 q252) (fun _ h9 => h9) rfl dX0_numbers_45 ?_
        refine lv_iload_n hx hb dX0_numbers_48 rfl (lv_at hl 4 rfl) ?_
        by_cases hkd : kd i = nI k
        · refine lv_icmp_ne (tgt := 64) hx hb dX0_numbers_49 (by decide) (fun c9 => absurd (hkd) c9) (fun _ => ?_)
          refine lv_aload hx hb dX0_numbers_52 (lv_at hl 0 rfl) ?_
          refine c_i (r_runV 0 M (m_isThere E hth1) hP (Rc.of cdX3 hth1) (lw_V q272 q273 q274 q27 q275) (by decide +kernel) rfl ⟨Nat.le_of_ble_eq_true rfl, Nat.le_of_ble_eq_true rfl⟩ hl.1 rfl (Nat.le_of_ble_eq_true rfl) dX0_numbers_54 ⟨Nat.le_of_ble_eq_true rfl, Nat.le_of_ble_eq_true rfl⟩) hP (fun r w4 H locs hq hP => ?_)
          obtain ⟨er, ew⟩ := hq
          rw [ew] at hP
          rw [er]
          cases hti : th i with
          | false =>
            have hs : ¬ st = G 6 := fun z => by rw [hst.mpr z] at hti; cases hti
            rw [if_neg hs]
            refine lv_if_eq (tgt := 64) hx hb dX0_numbers_57 (by decide) (fun _ => ?_) (fun c9 => absurd (rfl) c9)
            refine lv_iconst (v := 0) hx hb dX0_numbers_64 (by decide) ?_
            refine lv_iadd hx hb dX0_numbers_65 ?_
            have hc : cnt kd th (nI k) i + 0 = cnt kd th (nI k) (i + 1) := by show _ = (if kd i = nI k ∧ th i = true then _ else _); rw [if_neg (fun z => by rw [hti] at z; exact absurd z.2 (by decide))]; exact Int32.add_zero _
            rw [hc]
            refine lv_istore_n (lv' := [(2, .int (cnt kd th (nI k) (i + 1))), (4, .ref (ya i)), (3, .ref it), (0, .ref x), (1, .int (nI k))]) hx hb dX0_numbers_66 rfl hl (by decide) rfl (fun ls hl => ?_)
            refine lv_goto (tgt := 22) hx hb dX0_numbers_67 (by decide) ?_
            have hl := lv_sub (l' := [(3, .ref it), (2, .int (cnt kd th (nI k) (i + 1))), (0, .ref x), (1, .int (nI k))]) hl [2, 0, 3, 4] rfl
            exact ih (i + 1) (nI i) H locs ls (by omega) hP hl
          | true =>
            rw [if_pos (hst.mp hti)]
            refine lv_if_eq (tgt := 64) hx hb dX0_numbers_57 (by decide) (fun c9 => absurd c9 (h10)) (fun _ => ?_)
            refine lv_iconst (v := 1) hx hb dX0_numbers_60 (by decide) ?_
            refine lv_goto (tgt := 65) hx hb dX0_numbers_61 (by decide) ?_
            refine lv_iadd hx hb dX0_numbers_65 ?_
            have hc : cnt kd th (nI k) i + 1 = cnt kd th (nI k) (i + 1) := by show _ = (if kd i = nI k ∧ th i = true then _ else _); rw [if_pos ⟨hkd, hti⟩]
            rw [hc]
            refine lv_istore_n (lv' := [(2, .int (cnt kd th (nI k) (i + 1))), (4, .ref (ya i)), (3, .ref it), (0, .ref x), (1, .int (nI k))]) hx hb dX0_numbers_66 rfl hl (by decide) rfl (fun ls hl => ?_)
            refine lv_goto (tgt := 22) hx hb dX0_numbers_67 (by decide) ?_
            have hl := lv_sub (l' := [(3, .ref it), (2, .int (cnt kd th (nI k) (i + 1))), (0, .ref x), (1, .int (nI k))]) hl [2, 0, 3, 4] rfl
            exact ih (i + 1) (nI i) H locs ls (by omega) hP hl
        · refine lv_icmp_ne (tgt := 64) hx hb dX0_numbers_49 (by decide) (fun _ => ?_) (fun c9 => absurd c9 (hkd))
          refine lv_iconst (v := 0) hx hb dX0_numbers_64 (by decide) ?_
          refine lv_iadd hx hb dX0_numbers_65 ?_
          have hc : cnt kd th (nI k) i + 0 = cnt kd th (nI k) (i + 1) := by show _ = (if kd i = nI k ∧ th i = true then _ else _); rw [if_neg (fun z => hkd z.1)]; exact Int32.add_zero _
          rw [hc]
          refine lv_istore_n (lv' := [(2, .int (cnt kd th (nI k) (i + 1))), (4, .ref (ya i)), (3, .ref it), (0, .ref x), (1, .int (nI k))]) hx hb dX0_numbers_66 rfl hl (by decide) rfl (fun ls hl => ?_)
          refine lv_goto (tgt := 22) hx hb dX0_numbers_67 (by decide) ?_
          have hl := lv_sub (l' := [(3, .ref it), (2, .int (cnt kd th (nI k) (i + 1))), (0, .ref x), (1, .int (nI k))]) hl [2, 0, 3, 4] rfl
          exact ih (i + 1) (nI i) H locs ls (by omega) hP hl
    have hl := lv_sub (l' := [(3, .ref it), (2, .int 0), (0, .ref x), (1, .int (nI k))]) hl [0, 1, 2, 3] rfl
    exact loop n 0 (-1) H locs ls (by omega) hP hl
end
section
/-! ===== the desk: refusal, rowOf, tried ===== -/
/-- why a call of this thing can't be made -/
def rfS (rw : Nat → List Int64) (q kd : Int32) (th : Bool) (a : Int64) : Int32 := match ixo 32 q with
  | none => -2
  | some k => if kd = nI (k % 8) then (if a < 0 ∨ 1000000 < a then -4 else if th = false ∨ (24 ≤ k ∧ rw (k % 4) = []) then -5 else 0) else -2
/-- a contract of a method with handlers -/
abbrev MtW (l : Launch) (y : MethodName) (cc : ByteArray) (maxL : Nat) (ret : Option FieldType) (hh : List (Nat × Nat × Nat × Nat)) (rm : Room) (av : List Value) (s0 : State) (D : va_G) (w : mm) (Qc : Array Value → State → Outcome → State → Prop) : Prop := Met l y (wsW_ y cc maxL ret hh) rm (va_Pc av (Cx s0 D w)) Qc rm.cells rm.slots (Fr s0)

set_option maxHeartbeats 4000000 in
set_option maxRecDepth 100000 in
/-- MainframeDesk.refusal(call, null, a) -/
theorem m_refN {l : Launch} {s0 : State} {D : va_G} {G ad : Nat → Nat} {w : mm} (E : Bs l s0 D G ad) (x : Nat) (q : Int32) (b : Int64) : Mt l yX0_refusal cX0_refusal 5 (some FieldType.int) (rmk 1 0 0 20) [.ref x, .int q, .null, .long b] s0 D w (Qi s0 D (fun r w1 => r = -2 ∧ w1 = w)) := by
  refine Met.go E (by decide +kernel) (Nat.le_of_ble_eq_true rfl) (fun p ev s m below meth c ls M hr hlk hnm hl hP => ?_)
  have hx := M.1.1
  have hb := M.1.2.1
  have hl : lv_has ls 5 [(0, .ref x), (1, .int q), (2, .null), (3, .long b)] := hl
  refine lv_iload_n hx hb dX0_refusal_0 rfl (lv_at hl 1 rfl) ?_
  refine c_i (r_runS 1 M (m_isCall E q) hP (lw_S q231 q232 q12 q233) (by decide +kernel) rfl ⟨Nat.le_of_ble_eq_true rfl, Nat.le_of_ble_eq_true rfl⟩ hl.1 rfl (Nat.le_of_ble_eq_true rfl) dX0_refusal_1 ⟨Nat.le_of_ble_eq_true rfl, Nat.le_of_ble_eq_true rfl⟩) hP (fun r w1 H locs hq hP => ?_)
  obtain ⟨er, ew⟩ := hq
  rw [ew] at hP
  rw [er]
  rcases pk_ix q (n := 32) (by decide) with h | h | ⟨k, hk, rfl⟩
  · rw [ixo_neg h]
    refine lv_if_eq (tgt := 22) hx hb dX0_refusal_4 (by decide) (fun _ => ?_) (fun c9 => absurd (rfl) c9)
    refine lv_bipush (v := (-2)) hx hb dX0_refusal_22 (by decide) ?_
    exact r_iret M hr hlk hP ⟨rfl, rfl⟩ dX0_refusal_24 (Nat.le_of_ble_eq_true rfl) (Nat.le_of_ble_eq_true rfl)
  · rw [ixo_ge h]
    refine lv_if_eq (tgt := 22) hx hb dX0_refusal_4 (by decide) (fun _ => ?_) (fun c9 => absurd (rfl) c9)
    refine lv_bipush (v := (-2)) hx hb dX0_refusal_22 (by decide) ?_
    exact r_iret M hr hlk hP ⟨rfl, rfl⟩ dX0_refusal_24 (Nat.le_of_ble_eq_true rfl) (Nat.le_of_ble_eq_true rfl)
  · rw [ixo_in hk (by decide)]
    refine lv_if_eq (tgt := 22) hx hb dX0_refusal_4 (by decide) (fun c9 => absurd c9 (h10)) (fun _ => ?_)
    refine lv_aload_nN hx hb dX0_refusal_7 rfl (lv_at hl 2 rfl) ?_
    refine lv_ifnullN (tgt := 22) hx hb dX0_refusal_8 (by decide) ?_
    refine lv_bipush (v := (-2)) hx hb dX0_refusal_22 (by decide) ?_
    exact r_iret M hr hlk hP ⟨rfl, rfl⟩ dX0_refusal_24 (Nat.le_of_ble_eq_true rfl) (Nat.le_of_ble_eq_true rfl)
set_option maxHeartbeats 4000000 in
set_option maxRecDepth 100000 in
/-- MainframeDesk.refusal(call, thing, a) -/
theorem m_refS {l : Launch} {s0 : State} {D : va_G} {G ad : Nat → Nat} {w : mm} (E : Bs l s0 D G ad) {x y tl rl pa tt st : Nat} {c0 c1 c2 c3 c4 c5 kd nc : Int32} {th : Bool} {rw : Nat → List Int64} (hxo : w x = some (1, oD tl rl pa c0 c1 c2 c3 c4 c5)) (hth : w y = some (tt, oH kd st nc)) (hst : th = true ↔ st = G 6) (hR : RwL ad G w rl 4 rw) (hlen : ∀ k, (rw k).length ≤ 50) (q : Int32) (b : Int64) : Mt l yX0_refusal cX0_refusal 5 (some FieldType.int) (rmk 3 0 0 70) [.ref x, .int q, .ref y, .long b] s0 D w (Qi s0 D (fun r w1 => r = rfS rw q kd th b ∧ w1 = w)) := by
  refine Met.go E (by decide +kernel) (Nat.le_of_ble_eq_true rfl) (fun p ev s m below meth c ls M hr hlk hnm hl hP => ?_)
  have hx := M.1.1
  have hb := M.1.2.1
  have hl : lv_has ls 5 [(0, .ref x), (1, .int q), (2, .ref y), (3, .long b)] := hl
  refine lv_iload_n hx hb dX0_refusal_0 rfl (lv_at hl 1 rfl) ?_
  refine c_i (r_runS 1 M (m_isCall E q) hP (lw_S q231 q232 q12 q233) (by decide +kernel) rfl ⟨Nat.le_of_ble_eq_true rfl, Nat.le_of_ble_eq_true rfl⟩ hl.1 rfl (Nat.le_of_ble_eq_true rfl) dX0_refusal_1 ⟨Nat.le_of_ble_eq_true rfl, Nat.le_of_ble_eq_true rfl⟩) hP (fun r w1 H locs hq hP => ?_)
  obtain ⟨er, ew⟩ := hq
  rw [ew] at hP
  rw [er]
  rcases pk_ix q (n := 32) (by decide) with h | h | ⟨k, hk, rfl⟩
  · rw [ixo_neg h]
    refine lv_if_eq (tgt := 22) hx hb dX0_refusal_4 (by decide) (fun _ => ?_) (fun c9 => absurd (rfl) c9)
    refine lv_bipush (v := (-2)) hx hb dX0_refusal_22 (by decide) ?_
    exact r_iret M hr hlk hP ⟨by simp only [rfS, ixo_neg h], rfl⟩ dX0_refusal_24 (Nat.le_of_ble_eq_true rfl) (Nat.le_of_ble_eq_true rfl)
  · rw [ixo_ge h]
    refine lv_if_eq (tgt := 22) hx hb dX0_refusal_4 (by decide) (fun _ => ?_) (fun c9 => absurd (rfl) c9)
    refine lv_bipush (v := (-2)) hx hb dX0_refusal_22 (by decide) ?_
    exact r_iret M hr hlk hP ⟨by simp only [rfS, ixo_ge h], rfl⟩ dX0_refusal_24 (Nat.le_of_ble_eq_true rfl) (Nat.le_of_ble_eq_true rfl)
  · rw [ixo_in hk (by decide)]
    refine lv_if_eq (tgt := 22) hx hb dX0_refusal_4 (by decide) (fun c9 => absurd c9 (h10)) (fun _ => ?_)
    refine lv_aload_n hx hb dX0_refusal_7 rfl (lv_at hl 2 rfl) ?_
    refine lv_ifnull hx hb dX0_refusal_8 ?_
    refine lv_aload_n hx hb dX0_refusal_11 rfl (lv_at hl 2 rfl) ?_
    refine r_getN M cdX3 hP hth 0 (by decide) (E.fnest M.2.1 q252) (fun _ h9 => h9) rfl dX0_refusal_12 ?_
    refine lv_iload_n hx hb dX0_refusal_15 rfl (lv_at hl 1 rfl) ?_
    refine lv_bipush (v := 8) hx hb dX0_refusal_16 (by decide) ?_
    refine lv_irem hx hb dX0_refusal_18 (by decide) ?_
    rw [show nI k - nI k / 8 * 8 = nI (k % 8) from pk_rem (d := 8) (by omega) (by decide) (by decide)]
    by_cases hkd : kd = nI (k % 8)
    · refine lv_icmp_eq (tgt := 25) hx hb dX0_refusal_19 (by decide) (fun _ => ?_) (fun c9 => absurd (hkd) c9)
      refine lv_lload_n hx hb dX0_refusal_25 rfl (lv_at hl 3 rfl) ?_
      refine lv_lconst (v := 0) hx hb dX0_refusal_26 (by decide) ?_
      refine W.lcmp hx hb dX0_refusal_27 ?_
      by_cases h0 : b < 0
      · refine lv_if_lt (tgt := 39) hx hb dX0_refusal_28 (by decide) (fun _ => ?_) (fun c9 => absurd ((lg_cmp_lt b 0).mpr h0) c9)
        refine lv_bipush (v := (-4)) hx hb dX0_refusal_39 (by decide) ?_
        have hA : rfS rw (nI k) kd th b = -4 := by
          simp only [rfS, ixo_in hk (show 32 < 2 ^ 31 by decide)]
          rw [if_pos hkd, if_pos (Or.inl h0)]
        exact r_iret M hr hlk hP ⟨hA.symm, rfl⟩ dX0_refusal_41 (Nat.le_of_ble_eq_true rfl) (Nat.le_of_ble_eq_true rfl)
      · refine lv_if_lt (tgt := 39) hx hb dX0_refusal_28 (by decide) (fun c9 => absurd c9 (fun z => h0 ((lg_cmp_lt b 0).mp z))) (fun _ => ?_)
        refine lv_lload_n hx hb dX0_refusal_31 rfl (lv_at hl 3 rfl) ?_
        refine lv_ldc2 hx hb M.1.2.2.2.1 (M.1.2.2.2.2 _ q286) dX0_refusal_32 ?_
        refine W.lcmp hx hb dX0_refusal_35 ?_
        by_cases h1 : 1000000 < b
        · refine lv_if_le (tgt := 42) hx hb dX0_refusal_36 (by decide) (fun c9 => absurd c9 (fun z => absurd ((lg_cmp_le b 1000000).mp z) (Int64.not_le.mpr h1))) (fun _ => ?_)
          refine lv_bipush (v := (-4)) hx hb dX0_refusal_39 (by decide) ?_
          have hA : rfS rw (nI k) kd th b = -4 := by
            simp only [rfS, ixo_in hk (show 32 < 2 ^ 31 by decide)]
            rw [if_pos hkd, if_pos (Or.inr h1)]
          exact r_iret M hr hlk hP ⟨hA.symm, rfl⟩ dX0_refusal_41 (Nat.le_of_ble_eq_true rfl) (Nat.le_of_ble_eq_true rfl)
        · refine lv_if_le (tgt := 42) hx hb dX0_refusal_36 (by decide) (fun _ => ?_) (fun c9 => absurd ((lg_cmp_le b 1000000).mpr (Int64.not_lt.mp h1)) c9)
          have h01 : ¬ (b < 0 ∨ 1000000 < b) := fun z => z.elim h0 h1
          refine lv_aload_n hx hb dX0_refusal_42 rfl (lv_at hl 2 rfl) ?_
          refine c_i (r_runV 0 M (m_isThere E hth) hP (Rc.of cdX3 hth) (lw_V q272 q273 q274 q27 q275) (by decide +kernel) rfl ⟨Nat.le_of_ble_eq_true rfl, Nat.le_of_ble_eq_true rfl⟩ hl.1 rfl (Nat.le_of_ble_eq_true rfl) dX0_refusal_43 ⟨Nat.le_of_ble_eq_true rfl, Nat.le_of_ble_eq_true rfl⟩) hP (fun r w2 H locs hq hP => ?_)
          obtain ⟨er, ew⟩ := hq
          rw [ew] at hP
          rw [er]
          by_cases hti : th = true
          · rw [if_pos (hst.mp hti)]
            refine lv_if_eq (tgt := 74) hx hb dX0_refusal_46 (by decide) (fun c9 => absurd c9 (h10)) (fun _ => ?_)
            refine lv_iload_n hx hb dX0_refusal_49 rfl (lv_at hl 1 rfl) ?_
            refine lv_bipush (v := 24) hx hb dX0_refusal_50 (by decide) ?_
            by_cases h24 : k < 24
            · refine lv_icmp_lt (tgt := 79) hx hb dX0_refusal_52 (by decide) (fun _ => ?_) (fun c9 => absurd (nI_lt (b := 24) h24 (by decide)) c9)
              refine lv_iconst (v := 0) hx hb dX0_refusal_79 (by decide) ?_
              have hA : rfS rw (nI k) kd th b = 0 := by
                simp only [rfS, ixo_in hk (show 32 < 2 ^ 31 by decide)]
                rw [if_pos hkd, if_neg h01, if_neg (fun z => z.elim (fun z => by rw [hti] at z; cases z) (fun z => by omega))]
              exact r_iret M hr hlk hP ⟨hA.symm, rfl⟩ dX0_refusal_80 (Nat.le_of_ble_eq_true rfl) (Nat.le_of_ble_eq_true rfl)
            · refine lv_icmp_lt (tgt := 79) hx hb dX0_refusal_52 (by decide) (fun c9 => absurd c9 (nI_nlt (b := 24) (by omega) (by omega))) (fun _ => ?_)
              obtain ⟨mod, e, f, hL, hB, hv⟩ := hR
              have hk4 : k % 4 < 4 := Nat.mod_lt _ (by decide)
              obtain ⟨ro, hf, rm, re, rf, hrL, hrB, hrv⟩ := hv (k % 4) hk4
              have hl5 := hlen (k % 4)
              refine lv_aload_n hx hb dX0_refusal_55 rfl (lv_at hl 0 rfl) ?_
              refine r_get M cdX0 hP hxo 1 (by decide) q158 (fun _ h9 => h9) rfl dX0_refusal_56 ?_
              refine lv_iload_n hx hb dX0_refusal_59 rfl (lv_at hl 1 rfl) ?_
              refine lv_iconst (v := 4) hx hb dX0_refusal_60 (by decide) ?_
              refine lv_irem hx hb dX0_refusal_61 (by decide) ?_
              rw [show nI k - nI k / 4 * 4 = nI (k % 4) from pk_rem (d := 4) (by omega) (by decide) (by decide)]
              refine c_r (r_runV 1 M (m_getL E hL hB hk4 hf) hP (Rc.of cdJ2 hL) (lw_V q189 q190 q191 q15 q192) (by decide +kernel) rfl ⟨Nat.le_of_ble_eq_true rfl, Nat.le_of_ble_eq_true rfl⟩ hl.1 rfl (Nat.le_of_ble_eq_true rfl) dX0_refusal_62 ⟨Nat.le_of_ble_eq_true rfl, Nat.le_of_ble_eq_true rfl⟩) hP (fun r w3 H locs hq hP => ?_)
              obtain ⟨er, ew⟩ := hq
              rw [ew] at hP
              rw [er]
              refine r_cast M hP cdJ2 (Rc.of cdJ2 hrL) q51 dX0_refusal_65 ?_
              refine c_i (r_runV 0 M (m_isEmpty E hrL (by omega)) hP (Rc.of cdJ2 hrL) (lw_V q287 q288 q289 q15 q290) (by decide +kernel) rfl ⟨Nat.le_of_ble_eq_true rfl, Nat.le_of_ble_eq_true rfl⟩ hl.1 rfl (Nat.le_of_ble_eq_true rfl) dX0_refusal_68 ⟨Nat.le_of_ble_eq_true rfl, Nat.le_of_ble_eq_true rfl⟩) hP (fun r w4 H locs hq hP => ?_)
              obtain ⟨er, ew⟩ := hq
              rw [ew] at hP
              rw [er]
              by_cases hz : (rw (k % 4)).length = 0
              · rw [if_pos hz]
                refine lv_if_eq (tgt := 79) hx hb dX0_refusal_71 (by decide) (fun c9 => absurd c9 (h10)) (fun _ => ?_)
                refine lv_bipush (v := (-5)) hx hb dX0_refusal_74 (by decide) ?_
                refine lv_goto (tgt := 80) hx hb dX0_refusal_76 (by decide) ?_
                have hA : rfS rw (nI k) kd th b = -5 := by
                  simp only [rfS, ixo_in hk (show 32 < 2 ^ 31 by decide)]
                  rw [if_pos hkd, if_neg h01, if_pos (Or.inr ⟨by omega, List.length_eq_zero_iff.mp hz⟩)]
                exact r_iret M hr hlk hP ⟨hA.symm, rfl⟩ dX0_refusal_80 (Nat.le_of_ble_eq_true rfl) (Nat.le_of_ble_eq_true rfl)
              · rw [if_neg hz]
                refine lv_if_eq (tgt := 79) hx hb dX0_refusal_71 (by decide) (fun _ => ?_) (fun c9 => absurd (rfl) c9)
                refine lv_iconst (v := 0) hx hb dX0_refusal_79 (by decide) ?_
                have hA : rfS rw (nI k) kd th b = 0 := by
                  simp only [rfS, ixo_in hk (show 32 < 2 ^ 31 by decide)]
                  rw [if_pos hkd, if_neg h01, if_neg (fun z => z.elim (fun z => by rw [hti] at z; cases z) (fun z => hz (List.length_eq_zero_iff.mpr z.2)))]
                exact r_iret M hr hlk hP ⟨hA.symm, rfl⟩ dX0_refusal_80 (Nat.le_of_ble_eq_true rfl) (Nat.le_of_ble_eq_true rfl)
          · rw [if_neg (fun z => hti (hst.mpr z))]
            refine lv_if_eq (tgt := 74) hx hb dX0_refusal_46 (by decide) (fun _ => ?_) (fun c9 => absurd (rfl) c9)
            refine lv_bipush (v := (-5)) hx hb dX0_refusal_74 (by decide) ?_
            refine lv_goto (tgt := 80) hx hb dX0_refusal_76 (by decide) ?_
            have hA : rfS rw (nI k) kd th b = -5 := by
              simp only [rfS, ixo_in hk (show 32 < 2 ^ 31 by decide)]
              rw [if_pos hkd, if_neg h01, if_pos (Or.inl (by cases th with | true => exact absurd rfl hti | false => rfl))]
            exact r_iret M hr hlk hP ⟨hA.symm, rfl⟩ dX0_refusal_80 (Nat.le_of_ble_eq_true rfl) (Nat.le_of_ble_eq_true rfl)
    · refine lv_icmp_eq (tgt := 25) hx hb dX0_refusal_19 (by decide) (fun c9 => absurd c9 (hkd)) (fun _ => ?_)
      refine lv_bipush (v := (-2)) hx hb dX0_refusal_22 (by decide) ?_
      have hA : rfS rw (nI k) kd th b = -2 := by
        simp only [rfS, ixo_in hk (show 32 < 2 ^ 31 by decide)]
        rw [if_neg hkd]
      exact r_iret M hr hlk hP ⟨hA.symm, rfl⟩ dX0_refusal_24 (Nat.le_of_ble_eq_true rfl) (Nat.le_of_ble_eq_true rfl)
set_option maxHeartbeats 4000000 in
set_option maxRecDepth 100000 in
/-- MainframeDesk.rowOf(call), a row of its own -/
theorem m_rowN {l : Launch} {s0 : State} {D : va_G} {G ad : Nat → Nat} {w : mm} (E : Bs l s0 D G ad) (x : Nat) {k : Nat} (h8 : k < 8) : Mt l yX0_rowOf cX0_rowOf 2 (some (FieldType.object "java/util/ArrayList")) (rmk 4 1 3 80) [.ref x, .int (nI k)] s0 D w (Qr s0 D (fun r w1 => w r = none ∧ w1 = mset w r (0, oL 0 (G 5) 0))) := by
  refine Met.go E (by decide +kernel) (Nat.le_of_ble_eq_true rfl) (fun p ev s m below meth c ls M hr hlk hnm hl hP => ?_)
  have hx := M.1.1
  have hb := M.1.2.1
  have hl : lv_has ls 2 [(0, .ref x), (1, .int (nI k))] := hl
  refine lv_iload_n hx hb dX0_rowOf_0 rfl (lv_at hl 1 rfl) ?_
  refine lv_bipush (v := 8) hx hb dX0_rowOf_1 (by decide) ?_
  refine lv_icmp_ge (tgt := 16) hx hb dX0_rowOf_3 (by decide) (fun c9 => absurd c9 (nI_ge (b := 8) h8 (by decide))) (fun _ => ?_)
  refine r_new M (fs := [.int 0, .null, .int 0]) 0 cdJ2 hP q51 q52 q15 (fun j hj => by (first | (have : j = 0 := by omega) | skip); revert j; decide) (Nat.le_of_ble_eq_true rfl) (Nat.le_of_ble_eq_true rfl) dX0_rowOf_6 (fun r H nr hP => ?_)
  obtain ⟨w1, ew1⟩ : ∃ z : mm, z = mset w r (0, .inr (4, [.int 0, .null, .int 0])) := ⟨_, rfl⟩
  have hP := Px.re ew1 hP
  have h1 : w1 r = some (0, .inr (4, [.int 0, .null, .int 0])) := by rw [ew1]; exact mset_self ..
  refine lv_dup hx hb dX0_rowOf_9 rfl ?_
  refine c_v (r_runI 0 M (m_linit E r 0 h1) hP q55 q15 q53 q54 rfl (by decide +kernel) rfl ⟨Nat.le_of_ble_eq_true rfl, Nat.le_of_ble_eq_true rfl⟩ hl.1 rfl (Nat.le_of_ble_eq_true rfl) dX0_rowOf_10 ⟨Nat.le_of_ble_eq_true rfl, Nat.le_of_ble_eq_true rfl⟩) hP (fun w2 H locs hq hP => ?_)
  refine lv_goto (tgt := 29) hx hb dX0_rowOf_13 (by decide) ?_
  exact r_aret M hr (Or.inl ⟨_, rfl⟩) hlk hP ⟨nr, by rw [hq, ew1, mset_mset]⟩ dX0_rowOf_29 (Nat.le_of_ble_eq_true rfl) (Nat.le_of_ble_eq_true rfl)
set_option maxHeartbeats 4000000 in
set_option maxRecDepth 100000 in
/-- MainframeDesk.rowOf(call), a row of the desk -/
theorem m_rowO {l : Launch} {s0 : State} {D : va_G} {G ad : Nat → Nat} {w : mm} (E : Bs l s0 D G ad) {x tl rl pa e te tr re rn ro k : Nat} {mod rmod : Int32} {f : Nat → Option Nat} {c0 c1 c2 c3 c4 c5 : Int32} (hxo : w x = some (1, oD tl rl pa c0 c1 c2 c3 c4 c5)) (hL : w rl = some (4, oL mod e 4)) (hB : LB1 G w e 4 te f) (hf : f (k % 4) = some ro) (hrL : w ro = some (tr, oL rmod re rn)) (h8 : 8 ≤ k) (hk : k < 32) : Mt l yX0_rowOf cX0_rowOf 2 (some (FieldType.object "java/util/ArrayList")) (rmk 4 1 3 80) [.ref x, .int (nI k)] s0 D w (Qr s0 D (fun r w1 => r = ro ∧ w1 = w)) := by
  refine Met.go E (by decide +kernel) (Nat.le_of_ble_eq_true rfl) (fun p ev s m below meth c ls M hr hlk hnm hl hP => ?_)
  have hx := M.1.1
  have hb := M.1.2.1
  have hl : lv_has ls 2 [(0, .ref x), (1, .int (nI k))] := hl
  have hk4 : k % 4 < 4 := Nat.mod_lt _ (by decide)
  refine lv_iload_n hx hb dX0_rowOf_0 rfl (lv_at hl 1 rfl) ?_
  refine lv_bipush (v := 8) hx hb dX0_rowOf_1 (by decide) ?_
  refine lv_icmp_ge (tgt := 16) hx hb dX0_rowOf_3 (by decide) (fun _ => ?_) (fun c9 => absurd (nI_le (a := 8) h8 (by omega)) c9)
  refine lv_aload_n hx hb dX0_rowOf_16 rfl (lv_at hl 0 rfl) ?_
  refine r_get M cdX0 hP hxo 1 (by decide) q158 (fun _ h9 => h9) rfl dX0_rowOf_17 ?_
  refine lv_iload_n hx hb dX0_rowOf_20 rfl (lv_at hl 1 rfl) ?_
  refine lv_iconst (v := 4) hx hb dX0_rowOf_21 (by decide) ?_
  refine lv_irem hx hb dX0_rowOf_22 (by decide) ?_
  rw [show nI k - nI k / 4 * 4 = nI (k % 4) from pk_rem (d := 4) (by omega) (by decide) (by decide)]
  refine c_r (r_runV 1 M (m_getL E hL hB hk4 hf) hP (Rc.of cdJ2 hL) (lw_V q189 q190 q191 q15 q192) (by decide +kernel) rfl ⟨Nat.le_of_ble_eq_true rfl, Nat.le_of_ble_eq_true rfl⟩ hl.1 rfl (Nat.le_of_ble_eq_true rfl) dX0_rowOf_23 ⟨Nat.le_of_ble_eq_true rfl, Nat.le_of_ble_eq_true rfl⟩) hP (fun r w3 H locs hq hP => ?_)
  obtain ⟨er, ew⟩ := hq
  rw [ew] at hP
  rw [er]
  refine r_cast M hP cdJ2 (Rc.of cdJ2 hrL) q51 dX0_rowOf_26 ?_
  exact r_aret M hr (Or.inl ⟨_, rfl⟩) hlk hP ⟨rfl, rfl⟩ dX0_rowOf_29 (Nat.le_of_ble_eq_true rfl) (Nat.le_of_ble_eq_true rfl)
set_option maxHeartbeats 4000000 in
set_option maxRecDepth 100000 in
/-- tried, when the part answers -/
theorem m_triedV {l : Launch} {s0 : State} {D : va_G} {G ad : Nat → Nat} {w : mm} (E : Bs l s0 D G ad) {x y tl rl pa tt st k : Nat} {b : Int64} {c0 c1 c2 c3 c4 c5 kd nc : Int32} {rw : Nat → List Int64} {an : Nat → Int64} {fl : Nat → Nat} (hxo : w x = some (1, oD tl rl pa c0 c1 c2 c3 c4 c5)) (hth : w y = some (tt, oH kd st nc)) (hR : RwL ad G w rl 4 rw) (hPa : PaL G w pa an fl) (hlen : ∀ k, (rw k).length ≤ 50) (hk : k < 32) (hf0 : fl k = 0) : MtW l yX0_tried cX0_tried 6 (some FieldType.long) trH (rmk 10 5 233 10310) [.ref x, .int (nI k), .ref y, .long b] s0 D w (Ql s0 D (fun r w1 => r = an k + b + vsum (rowA rw k) + (if kd = 3 then nc.toInt64 else 0) ∧ w1 = w)) := by
  refine Met.goW E (by decide +kernel) (Nat.le_of_ble_eq_true rfl) (fun p ev s m below meth c ls M hr hlk htab hl hP => ?_)
  have hx := M.1.1
  have hb := M.1.2.1
  have hl : lv_has ls 6 [(0, .ref x), (1, .int (nI k)), (2, .ref y), (3, .long b)] := hl
  obtain ⟨f, hp1, hp2⟩ := hPa
  obtain ⟨pt, hf, hpt⟩ := hp2 k hk
  refine lv_aload_n hx hb dX0_tried_0 rfl (lv_at hl 0 rfl) ?_
  refine r_get M cdX0 hP hxo 2 (by decide) q159 (fun _ h9 => h9) rfl dX0_tried_1 ?_
  refine lv_iload_n hx hb dX0_tried_4 rfl (lv_at hl 1 rfl) ?_
  refine r_aaldP M hP hp1 (vp_in_nI hk (by decide)) dX0_tried_5 ?_
  rw [nI_clamp (by omega), hf]
  refine lv_aload_n hx hb dX0_tried_6 rfl (lv_at hl 2 rfl) ?_
  refine lv_lload_n hx hb dX0_tried_7 rfl (lv_at hl 3 rfl) ?_
  refine lv_aload_n hx hb dX0_tried_8 rfl (lv_at hl 0 rfl) ?_
  refine lv_iload_n hx hb dX0_tried_9 rfl (lv_at hl 1 rfl) ?_
  have hpt0 : w pt = some (100 + k, oP (an k) 0) := by rw [hf0] at hpt; exact hpt
  by_cases h8 : k < 8
  · refine c_r (r_runV 1 M (m_rowN E x h8) hP (Rc.of cdX0 hxo) (lw_V q405 q407 qs7 q12 q408) (by decide +kernel) rfl ⟨Nat.le_of_ble_eq_true rfl, Nat.le_of_ble_eq_true rfl⟩ hl.1 rfl (Nat.le_of_ble_eq_true rfl) dX0_tried_10 ⟨Nat.le_of_ble_eq_true rfl, Nat.le_of_ble_eq_true rfl⟩) hP (fun ro w1 H locs hq hP => ?_)
    obtain ⟨nq, ew1⟩ := hq
    have hk1 : Kp (fun _ => True) w w1 := by rw [ew1]; exact Kp.new nq
    have hro : w1 ro = some (0, oL 0 (G 5) 0) := by rw [ew1]; exact mset_self ..
    have hRn : Rw ad G w1 ro 0 99 [] := ⟨0, G 5, fun _ => none, hro, Or.inl ⟨rfl, rfl⟩, fun i v h => by cases h⟩
    refine c_l (r_runV 3 M (m_done E (hk1 _ _ _ hpt0 trivial) (hk1 _ _ _ hth trivial) hRn (by decide)) hP (Rc.of cdX1 (hk1 _ _ _ hpt0 trivial)) (lw_V q409 q410 q411 q20 q412) (by decide +kernel) rfl ⟨Nat.le_of_ble_eq_true rfl, Nat.le_of_ble_eq_true rfl⟩ hl.1 rfl (Nat.le_of_ble_eq_true rfl) dX0_tried_13 ⟨Nat.le_of_ble_eq_true rfl, Nat.le_of_ble_eq_true rfl⟩) hP (fun r w2 H locs hq hP => ?_)
    obtain ⟨er, ew⟩ := hq
    rw [ew, ew1] at hP
    rw [er]
    exact r_lret M hr hlk (hP.drop nq) ⟨by rw [rowA, if_pos h8], rfl⟩ dX0_tried_16 (Nat.le_of_ble_eq_true rfl) (Nat.le_of_ble_eq_true rfl)
  · have hk4 : k % 4 < 4 := Nat.mod_lt _ (by decide)
    obtain ⟨mod, e, g, hL, hB, hv⟩ := hR
    obtain ⟨ro, hg, hRw⟩ := hv (k % 4) hk4
    have hRw0 := hRw
    obtain ⟨rmod, re, rf, hrL, hrB, hrv⟩ := hRw
    refine c_r (r_runV 1 M (m_rowO E hxo hL hB hg hrL (by omega) hk) hP (Rc.of cdX0 hxo) (lw_V q405 q407 qs7 q12 q408) (by decide +kernel) rfl ⟨Nat.le_of_ble_eq_true rfl, Nat.le_of_ble_eq_true rfl⟩ hl.1 rfl (Nat.le_of_ble_eq_true rfl) dX0_tried_10 ⟨Nat.le_of_ble_eq_true rfl, Nat.le_of_ble_eq_true rfl⟩) hP (fun r w1 H locs hq hP => ?_)
    obtain ⟨er, ew⟩ := hq
    rw [ew] at hP
    rw [er]
    refine c_l (r_runV 3 M (m_done E hpt0 hth hRw0 (by have := hlen (k % 4); omega)) hP (Rc.of cdX1 hpt0) (lw_V q409 q410 q411 q20 q412) (by decide +kernel) rfl ⟨Nat.le_of_ble_eq_true rfl, Nat.le_of_ble_eq_true rfl⟩ hl.1 rfl (Nat.le_of_ble_eq_true rfl) dX0_tried_13 ⟨Nat.le_of_ble_eq_true rfl, Nat.le_of_ble_eq_true rfl⟩) hP (fun r w2 H locs hq hP => ?_)
    obtain ⟨er, ew⟩ := hq
    rw [ew] at hP
    rw [er]
    exact r_lret M hr hlk hP ⟨by rw [rowA, if_neg h8], rfl⟩ dX0_tried_16 (Nat.le_of_ble_eq_true rfl) (Nat.le_of_ble_eq_true rfl)
set_option maxHeartbeats 4000000 in
set_option maxRecDepth 100000 in
/-- tried, when the part fails -/
theorem m_triedX {l : Launch} {s0 : State} {D : va_G} {G ad : Nat → Nat} {w : mm} (E : Bs l s0 D G ad) {x y tl rl pa tt st k : Nat} {b : Int64} {c0 c1 c2 c3 c4 c5 kd nc : Int32} {rw : Nat → List Int64} {an : Nat → Int64} {fl : Nat → Nat} (hxo : w x = some (1, oD tl rl pa c0 c1 c2 c3 c4 c5)) (hth : w y = some (tt, oH kd st nc)) (hR : RwL ad G w rl 4 rw) (hPa : PaL G w pa an fl) (hlen : ∀ k, (rw k).length ≤ 50) (hk : k < 32) {fc : Nat} (hfc : fl k = fc) (h1 : 1 ≤ fc) (h6 : fc ≤ 6) : MtW l yX0_tried cX0_tried 6 (some FieldType.long) trH (rmk 10 5 233 10310) [.ref x, .int (nI k), .ref y, .long b] s0 D w (Ql s0 D (fun r w1 => r = -10 - (nI fc).toInt64 ∧ w1 = mset w x (1, oD tl rl pa (nI fc) c1 c2 c3 c4 c5))) := by
  refine Met.goW E (by decide +kernel) (Nat.le_of_ble_eq_true rfl) (fun p ev s m below meth c ls M hr hlk htab hl hP => ?_)
  have hx := M.1.1
  have hb := M.1.2.1
  have hl : lv_has ls 6 [(0, .ref x), (1, .int (nI k)), (2, .ref y), (3, .long b)] := hl
  obtain ⟨f, hp1, hp2⟩ := hPa
  obtain ⟨pt, hf, hpt⟩ := hp2 k hk
  refine lv_aload_n hx hb dX0_tried_0 rfl (lv_at hl 0 rfl) ?_
  refine r_get M cdX0 hP hxo 2 (by decide) q159 (fun _ h9 => h9) rfl dX0_tried_1 ?_
  refine lv_iload_n hx hb dX0_tried_4 rfl (lv_at hl 1 rfl) ?_
  refine r_aaldP M hP hp1 (vp_in_nI hk (by decide)) dX0_tried_5 ?_
  rw [nI_clamp (by omega), hf]
  refine lv_aload_n hx hb dX0_tried_6 rfl (lv_at hl 2 rfl) ?_
  refine lv_lload_n hx hb dX0_tried_7 rfl (lv_at hl 3 rfl) ?_
  refine lv_aload_n hx hb dX0_tried_8 rfl (lv_at hl 0 rfl) ?_
  refine lv_iload_n hx hb dX0_tried_9 rfl (lv_at hl 1 rfl) ?_
  rw [hfc] at hpt
  by_cases h8 : k < 8
  · refine c_r (r_runV 1 M (m_rowN E x h8) hP (Rc.of cdX0 hxo) (lw_V q405 q407 qs7 q12 q408) (by decide +kernel) rfl ⟨Nat.le_of_ble_eq_true rfl, Nat.le_of_ble_eq_true rfl⟩ hl.1 rfl (Nat.le_of_ble_eq_true rfl) dX0_tried_10 ⟨Nat.le_of_ble_eq_true rfl, Nat.le_of_ble_eq_true rfl⟩) hP (fun ro w1 H locs hq hP => ?_)
    obtain ⟨nq, ew1⟩ := hq
    have hk1 : Kp (fun _ => True) w w1 := by rw [ew1]; exact Kp.new nq
    have hro : w1 ro = some (0, oL 0 (G 5) 0) := by rw [ew1]; exact mset_self ..
    refine t_callV 3 M (m_doneT E (hk1 _ _ _ hpt trivial) h1 h6) hP (Rc.of cdX1 (hk1 _ _ _ hpt trivial)) (lw_V q409 q410 q411 q20 q412) (by decide +kernel) rfl ⟨Nat.le_of_ble_eq_true rfl, Nat.le_of_ble_eq_true rfl⟩ hl.1 rfl (Nat.le_of_ble_eq_true rfl) dX0_tried_13 ⟨Nat.le_of_ble_eq_true rfl, Nat.le_of_ble_eq_true rfl⟩ (fun ex T L X hP hce => t_tried M E htab X h1 h6 hce ?_)
    rw [ew1] at hP
    have hP := hP.drop nq
    have hc6 : fc = 1 ∨ fc = 2 ∨ fc = 3 ∨ fc = 4 ∨ fc = 5 ∨ fc = 6 := by omega
    rcases hc6 with rfl | rfl | rfl | rfl | rfl | rfl
    · refine lv_astore (lv' := [(5, .ref ex), (0, .ref x), (1, .int (nI k)), (2, .ref y), (3, .long b)]) hx hb dX0_tried_17 hl (by decide) rfl (fun ls hl => ?_)
      refine lv_aload_n hx hb dX0_tried_19 rfl (lv_at hl 1 rfl) ?_
      refine lv_iconst (v := 1) hx hb dX0_tried_20 (by decide) ?_
      refine r_put (v := .int (nI 1)) M cdX0 hP hxo 3 (by decide) q160 (fun _ h9 => h9) rfl rfl rfl (Nat.le_of_ble_eq_true rfl) dX0_tried_21 (fun H locs hP => ?_)
      obtain ⟨w3, ew3⟩ : ∃ z : mm, z = mset w x (1, oD tl rl pa (nI 1) c1 c2 c3 c4 c5) := ⟨_, rfl⟩
      have hP := Px.re ew3 hP
      have hx3 : w3 x = some (1, oD tl rl pa (nI 1) c1 c2 c3 c4 c5) := by rw [ew3]; exact mset_self ..
      refine lv_goto (tgt := 75) hx hb dX0_tried_24 (by decide) ?_
      refine lv_ldc2 hx hb M.1.2.2.2.1 (M.1.2.2.2.2 _ q525) dX0_tried_75 ?_
      refine lv_aload_n hx hb dX0_tried_78 rfl (lv_at hl 1 rfl) ?_
      refine r_get M cdX0 hP hx3 3 (by decide) q160 (fun _ h9 => h9) rfl dX0_tried_79 ?_
      refine lv_i2l hx hb dX0_tried_82 rfl ?_
      refine lv_lsub hx hb dX0_tried_83 ?_
      exact r_lret M hr hlk hP ⟨rfl, ew3⟩ dX0_tried_84 (Nat.le_of_ble_eq_true rfl) (Nat.le_of_ble_eq_true rfl)
    · refine lv_astore (lv' := [(5, .ref ex), (0, .ref x), (1, .int (nI k)), (2, .ref y), (3, .long b)]) hx hb dX0_tried_27 hl (by decide) rfl (fun ls hl => ?_)
      refine lv_aload_n hx hb dX0_tried_29 rfl (lv_at hl 1 rfl) ?_
      refine lv_iconst (v := 2) hx hb dX0_tried_30 (by decide) ?_
      refine r_put (v := .int (nI 2)) M cdX0 hP hxo 3 (by decide) q160 (fun _ h9 => h9) rfl rfl rfl (Nat.le_of_ble_eq_true rfl) dX0_tried_31 (fun H locs hP => ?_)
      obtain ⟨w3, ew3⟩ : ∃ z : mm, z = mset w x (1, oD tl rl pa (nI 2) c1 c2 c3 c4 c5) := ⟨_, rfl⟩
      have hP := Px.re ew3 hP
      have hx3 : w3 x = some (1, oD tl rl pa (nI 2) c1 c2 c3 c4 c5) := by rw [ew3]; exact mset_self ..
      refine lv_goto (tgt := 75) hx hb dX0_tried_34 (by decide) ?_
      refine lv_ldc2 hx hb M.1.2.2.2.1 (M.1.2.2.2.2 _ q525) dX0_tried_75 ?_
      refine lv_aload_n hx hb dX0_tried_78 rfl (lv_at hl 1 rfl) ?_
      refine r_get M cdX0 hP hx3 3 (by decide) q160 (fun _ h9 => h9) rfl dX0_tried_79 ?_
      refine lv_i2l hx hb dX0_tried_82 rfl ?_
      refine lv_lsub hx hb dX0_tried_83 ?_
      exact r_lret M hr hlk hP ⟨rfl, ew3⟩ dX0_tried_84 (Nat.le_of_ble_eq_true rfl) (Nat.le_of_ble_eq_true rfl)
    · refine lv_astore (lv' := [(5, .ref ex), (0, .ref x), (1, .int (nI k)), (2, .ref y), (3, .long b)]) hx hb dX0_tried_37 hl (by decide) rfl (fun ls hl => ?_)
      refine lv_aload_n hx hb dX0_tried_39 rfl (lv_at hl 1 rfl) ?_
      refine lv_iconst (v := 3) hx hb dX0_tried_40 (by decide) ?_
      refine r_put (v := .int (nI 3)) M cdX0 hP hxo 3 (by decide) q160 (fun _ h9 => h9) rfl rfl rfl (Nat.le_of_ble_eq_true rfl) dX0_tried_41 (fun H locs hP => ?_)
      obtain ⟨w3, ew3⟩ : ∃ z : mm, z = mset w x (1, oD tl rl pa (nI 3) c1 c2 c3 c4 c5) := ⟨_, rfl⟩
      have hP := Px.re ew3 hP
      have hx3 : w3 x = some (1, oD tl rl pa (nI 3) c1 c2 c3 c4 c5) := by rw [ew3]; exact mset_self ..
      refine lv_goto (tgt := 75) hx hb dX0_tried_44 (by decide) ?_
      refine lv_ldc2 hx hb M.1.2.2.2.1 (M.1.2.2.2.2 _ q525) dX0_tried_75 ?_
      refine lv_aload_n hx hb dX0_tried_78 rfl (lv_at hl 1 rfl) ?_
      refine r_get M cdX0 hP hx3 3 (by decide) q160 (fun _ h9 => h9) rfl dX0_tried_79 ?_
      refine lv_i2l hx hb dX0_tried_82 rfl ?_
      refine lv_lsub hx hb dX0_tried_83 ?_
      exact r_lret M hr hlk hP ⟨rfl, ew3⟩ dX0_tried_84 (Nat.le_of_ble_eq_true rfl) (Nat.le_of_ble_eq_true rfl)
    · refine lv_astore (lv' := [(5, .ref ex), (0, .ref x), (1, .int (nI k)), (2, .ref y), (3, .long b)]) hx hb dX0_tried_47 hl (by decide) rfl (fun ls hl => ?_)
      refine lv_aload_n hx hb dX0_tried_49 rfl (lv_at hl 1 rfl) ?_
      refine lv_iconst (v := 4) hx hb dX0_tried_50 (by decide) ?_
      refine r_put (v := .int (nI 4)) M cdX0 hP hxo 3 (by decide) q160 (fun _ h9 => h9) rfl rfl rfl (Nat.le_of_ble_eq_true rfl) dX0_tried_51 (fun H locs hP => ?_)
      obtain ⟨w3, ew3⟩ : ∃ z : mm, z = mset w x (1, oD tl rl pa (nI 4) c1 c2 c3 c4 c5) := ⟨_, rfl⟩
      have hP := Px.re ew3 hP
      have hx3 : w3 x = some (1, oD tl rl pa (nI 4) c1 c2 c3 c4 c5) := by rw [ew3]; exact mset_self ..
      refine lv_goto (tgt := 75) hx hb dX0_tried_54 (by decide) ?_
      refine lv_ldc2 hx hb M.1.2.2.2.1 (M.1.2.2.2.2 _ q525) dX0_tried_75 ?_
      refine lv_aload_n hx hb dX0_tried_78 rfl (lv_at hl 1 rfl) ?_
      refine r_get M cdX0 hP hx3 3 (by decide) q160 (fun _ h9 => h9) rfl dX0_tried_79 ?_
      refine lv_i2l hx hb dX0_tried_82 rfl ?_
      refine lv_lsub hx hb dX0_tried_83 ?_
      exact r_lret M hr hlk hP ⟨rfl, ew3⟩ dX0_tried_84 (Nat.le_of_ble_eq_true rfl) (Nat.le_of_ble_eq_true rfl)
    · refine lv_astore (lv' := [(5, .ref ex), (0, .ref x), (1, .int (nI k)), (2, .ref y), (3, .long b)]) hx hb dX0_tried_57 hl (by decide) rfl (fun ls hl => ?_)
      refine lv_aload_n hx hb dX0_tried_59 rfl (lv_at hl 1 rfl) ?_
      refine lv_iconst (v := 5) hx hb dX0_tried_60 (by decide) ?_
      refine r_put (v := .int (nI 5)) M cdX0 hP hxo 3 (by decide) q160 (fun _ h9 => h9) rfl rfl rfl (Nat.le_of_ble_eq_true rfl) dX0_tried_61 (fun H locs hP => ?_)
      obtain ⟨w3, ew3⟩ : ∃ z : mm, z = mset w x (1, oD tl rl pa (nI 5) c1 c2 c3 c4 c5) := ⟨_, rfl⟩
      have hP := Px.re ew3 hP
      have hx3 : w3 x = some (1, oD tl rl pa (nI 5) c1 c2 c3 c4 c5) := by rw [ew3]; exact mset_self ..
      refine lv_goto (tgt := 75) hx hb dX0_tried_64 (by decide) ?_
      refine lv_ldc2 hx hb M.1.2.2.2.1 (M.1.2.2.2.2 _ q525) dX0_tried_75 ?_
      refine lv_aload_n hx hb dX0_tried_78 rfl (lv_at hl 1 rfl) ?_
      refine r_get M cdX0 hP hx3 3 (by decide) q160 (fun _ h9 => h9) rfl dX0_tried_79 ?_
      refine lv_i2l hx hb dX0_tried_82 rfl ?_
      refine lv_lsub hx hb dX0_tried_83 ?_
      exact r_lret M hr hlk hP ⟨rfl, ew3⟩ dX0_tried_84 (Nat.le_of_ble_eq_true rfl) (Nat.le_of_ble_eq_true rfl)
    · refine lv_astore (lv' := [(5, .ref ex), (0, .ref x), (1, .int (nI k)), (2, .ref y), (3, .long b)]) hx hb dX0_tried_67 hl (by decide) rfl (fun ls hl => ?_)
      refine lv_aload_n hx hb dX0_tried_69 rfl (lv_at hl 1 rfl) ?_
      refine lv_bipush (v := 6) hx hb dX0_tried_70 (by decide) ?_
      refine r_put (v := .int (nI 6)) M cdX0 hP hxo 3 (by decide) q160 (fun _ h9 => h9) rfl rfl rfl (Nat.le_of_ble_eq_true rfl) dX0_tried_72 (fun H locs hP => ?_)
      obtain ⟨w3, ew3⟩ : ∃ z : mm, z = mset w x (1, oD tl rl pa (nI 6) c1 c2 c3 c4 c5) := ⟨_, rfl⟩
      have hP := Px.re ew3 hP
      have hx3 : w3 x = some (1, oD tl rl pa (nI 6) c1 c2 c3 c4 c5) := by rw [ew3]; exact mset_self ..
      refine lv_ldc2 hx hb M.1.2.2.2.1 (M.1.2.2.2.2 _ q525) dX0_tried_75 ?_
      refine lv_aload_n hx hb dX0_tried_78 rfl (lv_at hl 1 rfl) ?_
      refine r_get M cdX0 hP hx3 3 (by decide) q160 (fun _ h9 => h9) rfl dX0_tried_79 ?_
      refine lv_i2l hx hb dX0_tried_82 rfl ?_
      refine lv_lsub hx hb dX0_tried_83 ?_
      exact r_lret M hr hlk hP ⟨rfl, ew3⟩ dX0_tried_84 (Nat.le_of_ble_eq_true rfl) (Nat.le_of_ble_eq_true rfl)
  · have hk4 : k % 4 < 4 := Nat.mod_lt _ (by decide)
    obtain ⟨mod, e, g, hL, hB, hv⟩ := hR
    obtain ⟨ro, hg, hRw⟩ := hv (k % 4) hk4
    have hRw0 := hRw
    obtain ⟨rmod, re, rf, hrL, hrB, hrv⟩ := hRw
    refine c_r (r_runV 1 M (m_rowO E hxo hL hB hg hrL (by omega) hk) hP (Rc.of cdX0 hxo) (lw_V q405 q407 qs7 q12 q408) (by decide +kernel) rfl ⟨Nat.le_of_ble_eq_true rfl, Nat.le_of_ble_eq_true rfl⟩ hl.1 rfl (Nat.le_of_ble_eq_true rfl) dX0_tried_10 ⟨Nat.le_of_ble_eq_true rfl, Nat.le_of_ble_eq_true rfl⟩) hP (fun r w1 H locs hq hP => ?_)
    obtain ⟨er, ew⟩ := hq
    rw [ew] at hP
    rw [er]
    refine t_callV 3 M (m_doneT E hpt h1 h6) hP (Rc.of cdX1 hpt) (lw_V q409 q410 q411 q20 q412) (by decide +kernel) rfl ⟨Nat.le_of_ble_eq_true rfl, Nat.le_of_ble_eq_true rfl⟩ hl.1 rfl (Nat.le_of_ble_eq_true rfl) dX0_tried_13 ⟨Nat.le_of_ble_eq_true rfl, Nat.le_of_ble_eq_true rfl⟩ (fun ex T L X hP hce => t_tried M E htab X h1 h6 hce ?_)
    have hc6 : fc = 1 ∨ fc = 2 ∨ fc = 3 ∨ fc = 4 ∨ fc = 5 ∨ fc = 6 := by omega
    rcases hc6 with rfl | rfl | rfl | rfl | rfl | rfl
    · refine lv_astore (lv' := [(5, .ref ex), (0, .ref x), (1, .int (nI k)), (2, .ref y), (3, .long b)]) hx hb dX0_tried_17 hl (by decide) rfl (fun ls hl => ?_)
      refine lv_aload_n hx hb dX0_tried_19 rfl (lv_at hl 1 rfl) ?_
      refine lv_iconst (v := 1) hx hb dX0_tried_20 (by decide) ?_
      refine r_put (v := .int (nI 1)) M cdX0 hP hxo 3 (by decide) q160 (fun _ h9 => h9) rfl rfl rfl (Nat.le_of_ble_eq_true rfl) dX0_tried_21 (fun H locs hP => ?_)
      obtain ⟨w3, ew3⟩ : ∃ z : mm, z = mset w x (1, oD tl rl pa (nI 1) c1 c2 c3 c4 c5) := ⟨_, rfl⟩
      have hP := Px.re ew3 hP
      have hx3 : w3 x = some (1, oD tl rl pa (nI 1) c1 c2 c3 c4 c5) := by rw [ew3]; exact mset_self ..
      refine lv_goto (tgt := 75) hx hb dX0_tried_24 (by decide) ?_
      refine lv_ldc2 hx hb M.1.2.2.2.1 (M.1.2.2.2.2 _ q525) dX0_tried_75 ?_
      refine lv_aload_n hx hb dX0_tried_78 rfl (lv_at hl 1 rfl) ?_
      refine r_get M cdX0 hP hx3 3 (by decide) q160 (fun _ h9 => h9) rfl dX0_tried_79 ?_
      refine lv_i2l hx hb dX0_tried_82 rfl ?_
      refine lv_lsub hx hb dX0_tried_83 ?_
      exact r_lret M hr hlk hP ⟨rfl, ew3⟩ dX0_tried_84 (Nat.le_of_ble_eq_true rfl) (Nat.le_of_ble_eq_true rfl)
    · refine lv_astore (lv' := [(5, .ref ex), (0, .ref x), (1, .int (nI k)), (2, .ref y), (3, .long b)]) hx hb dX0_tried_27 hl (by decide) rfl (fun ls hl => ?_)
      refine lv_aload_n hx hb dX0_tried_29 rfl (lv_at hl 1 rfl) ?_
      refine lv_iconst (v := 2) hx hb dX0_tried_30 (by decide) ?_
      refine r_put (v := .int (nI 2)) M cdX0 hP hxo 3 (by decide) q160 (fun _ h9 => h9) rfl rfl rfl (Nat.le_of_ble_eq_true rfl) dX0_tried_31 (fun H locs hP => ?_)
      obtain ⟨w3, ew3⟩ : ∃ z : mm, z = mset w x (1, oD tl rl pa (nI 2) c1 c2 c3 c4 c5) := ⟨_, rfl⟩
      have hP := Px.re ew3 hP
      have hx3 : w3 x = some (1, oD tl rl pa (nI 2) c1 c2 c3 c4 c5) := by rw [ew3]; exact mset_self ..
      refine lv_goto (tgt := 75) hx hb dX0_tried_34 (by decide) ?_
      refine lv_ldc2 hx hb M.1.2.2.2.1 (M.1.2.2.2.2 _ q525) dX0_tried_75 ?_
      refine lv_aload_n hx hb dX0_tried_78 rfl (lv_at hl 1 rfl) ?_
      refine r_get M cdX0 hP hx3 3 (by decide) q160 (fun _ h9 => h9) rfl dX0_tried_79 ?_
      refine lv_i2l hx hb dX0_tried_82 rfl ?_
      refine lv_lsub hx hb dX0_tried_83 ?_
      exact r_lret M hr hlk hP ⟨rfl, ew3⟩ dX0_tried_84 (Nat.le_of_ble_eq_true rfl) (Nat.le_of_ble_eq_true rfl)
    · refine lv_astore (lv' := [(5, .ref ex), (0, .ref x), (1, .int (nI k)), (2, .ref y), (3, .long b)]) hx hb dX0_tried_37 hl (by decide) rfl (fun ls hl => ?_)
      refine lv_aload_n hx hb dX0_tried_39 rfl (lv_at hl 1 rfl) ?_
      refine lv_iconst (v := 3) hx hb dX0_tried_40 (by decide) ?_
      refine r_put (v := .int (nI 3)) M cdX0 hP hxo 3 (by decide) q160 (fun _ h9 => h9) rfl rfl rfl (Nat.le_of_ble_eq_true rfl) dX0_tried_41 (fun H locs hP => ?_)
      obtain ⟨w3, ew3⟩ : ∃ z : mm, z = mset w x (1, oD tl rl pa (nI 3) c1 c2 c3 c4 c5) := ⟨_, rfl⟩
      have hP := Px.re ew3 hP
      have hx3 : w3 x = some (1, oD tl rl pa (nI 3) c1 c2 c3 c4 c5) := by rw [ew3]; exact mset_self ..
      refine lv_goto (tgt := 75) hx hb dX0_tried_44 (by decide) ?_
      refine lv_ldc2 hx hb M.1.2.2.2.1 (M.1.2.2.2.2 _ q525) dX0_tried_75 ?_
      refine lv_aload_n hx hb dX0_tried_78 rfl (lv_at hl 1 rfl) ?_
      refine r_get M cdX0 hP hx3 3 (by decide) q160 (fun _ h9 => h9) rfl dX0_tried_79 ?_
      refine lv_i2l hx hb dX0_tried_82 rfl ?_
      refine lv_lsub hx hb dX0_tried_83 ?_
      exact r_lret M hr hlk hP ⟨rfl, ew3⟩ dX0_tried_84 (Nat.le_of_ble_eq_true rfl) (Nat.le_of_ble_eq_true rfl)
    · refine lv_astore (lv' := [(5, .ref ex), (0, .ref x), (1, .int (nI k)), (2, .ref y), (3, .long b)]) hx hb dX0_tried_47 hl (by decide) rfl (fun ls hl => ?_)
      refine lv_aload_n hx hb dX0_tried_49 rfl (lv_at hl 1 rfl) ?_
      refine lv_iconst (v := 4) hx hb dX0_tried_50 (by decide) ?_
      refine r_put (v := .int (nI 4)) M cdX0 hP hxo 3 (by decide) q160 (fun _ h9 => h9) rfl rfl rfl (Nat.le_of_ble_eq_true rfl) dX0_tried_51 (fun H locs hP => ?_)
      obtain ⟨w3, ew3⟩ : ∃ z : mm, z = mset w x (1, oD tl rl pa (nI 4) c1 c2 c3 c4 c5) := ⟨_, rfl⟩
      have hP := Px.re ew3 hP
      have hx3 : w3 x = some (1, oD tl rl pa (nI 4) c1 c2 c3 c4 c5) := by rw [ew3]; exact mset_self ..
      refine lv_goto (tgt := 75) hx hb dX0_tried_54 (by decide) ?_
      refine lv_ldc2 hx hb M.1.2.2.2.1 (M.1.2.2.2.2 _ q525) dX0_tried_75 ?_
      refine lv_aload_n hx hb dX0_tried_78 rfl (lv_at hl 1 rfl) ?_
      refine r_get M cdX0 hP hx3 3 (by decide) q160 (fun _ h9 => h9) rfl dX0_tried_79 ?_
      refine lv_i2l hx hb dX0_tried_82 rfl ?_
      refine lv_lsub hx hb dX0_tried_83 ?_
      exact r_lret M hr hlk hP ⟨rfl, ew3⟩ dX0_tried_84 (Nat.le_of_ble_eq_true rfl) (Nat.le_of_ble_eq_true rfl)
    · refine lv_astore (lv' := [(5, .ref ex), (0, .ref x), (1, .int (nI k)), (2, .ref y), (3, .long b)]) hx hb dX0_tried_57 hl (by decide) rfl (fun ls hl => ?_)
      refine lv_aload_n hx hb dX0_tried_59 rfl (lv_at hl 1 rfl) ?_
      refine lv_iconst (v := 5) hx hb dX0_tried_60 (by decide) ?_
      refine r_put (v := .int (nI 5)) M cdX0 hP hxo 3 (by decide) q160 (fun _ h9 => h9) rfl rfl rfl (Nat.le_of_ble_eq_true rfl) dX0_tried_61 (fun H locs hP => ?_)
      obtain ⟨w3, ew3⟩ : ∃ z : mm, z = mset w x (1, oD tl rl pa (nI 5) c1 c2 c3 c4 c5) := ⟨_, rfl⟩
      have hP := Px.re ew3 hP
      have hx3 : w3 x = some (1, oD tl rl pa (nI 5) c1 c2 c3 c4 c5) := by rw [ew3]; exact mset_self ..
      refine lv_goto (tgt := 75) hx hb dX0_tried_64 (by decide) ?_
      refine lv_ldc2 hx hb M.1.2.2.2.1 (M.1.2.2.2.2 _ q525) dX0_tried_75 ?_
      refine lv_aload_n hx hb dX0_tried_78 rfl (lv_at hl 1 rfl) ?_
      refine r_get M cdX0 hP hx3 3 (by decide) q160 (fun _ h9 => h9) rfl dX0_tried_79 ?_
      refine lv_i2l hx hb dX0_tried_82 rfl ?_
      refine lv_lsub hx hb dX0_tried_83 ?_
      exact r_lret M hr hlk hP ⟨rfl, ew3⟩ dX0_tried_84 (Nat.le_of_ble_eq_true rfl) (Nat.le_of_ble_eq_true rfl)
    · refine lv_astore (lv' := [(5, .ref ex), (0, .ref x), (1, .int (nI k)), (2, .ref y), (3, .long b)]) hx hb dX0_tried_67 hl (by decide) rfl (fun ls hl => ?_)
      refine lv_aload_n hx hb dX0_tried_69 rfl (lv_at hl 1 rfl) ?_
      refine lv_bipush (v := 6) hx hb dX0_tried_70 (by decide) ?_
      refine r_put (v := .int (nI 6)) M cdX0 hP hxo 3 (by decide) q160 (fun _ h9 => h9) rfl rfl rfl (Nat.le_of_ble_eq_true rfl) dX0_tried_72 (fun H locs hP => ?_)
      obtain ⟨w3, ew3⟩ : ∃ z : mm, z = mset w x (1, oD tl rl pa (nI 6) c1 c2 c3 c4 c5) := ⟨_, rfl⟩
      have hP := Px.re ew3 hP
      have hx3 : w3 x = some (1, oD tl rl pa (nI 6) c1 c2 c3 c4 c5) := by rw [ew3]; exact mset_self ..
      refine lv_ldc2 hx hb M.1.2.2.2.1 (M.1.2.2.2.2 _ q525) dX0_tried_75 ?_
      refine lv_aload_n hx hb dX0_tried_78 rfl (lv_at hl 1 rfl) ?_
      refine r_get M cdX0 hP hx3 3 (by decide) q160 (fun _ h9 => h9) rfl dX0_tried_79 ?_
      refine lv_i2l hx hb dX0_tried_82 rfl ?_
      refine lv_lsub hx hb dX0_tried_83 ?_
      exact r_lret M hr hlk hP ⟨rfl, ew3⟩ dX0_tried_84 (Nat.le_of_ble_eq_true rfl) (Nat.le_of_ble_eq_true rfl)
end
section
/-! ===== the desk: call, again ===== -/
theorem fRef_none {n : Nat} {kd : Nat → Int32} {th : Nat → Bool} {ca : Nat → Nat} {rw : Nat → List Int64} {pp : (Nat → Int64) × (Nat → Nat)} {cs : Int32 × Int32 × Int32 × Int32 × Int32 × Int32} {q num : Int32} {a : Int64} (h : ixt n num = none) : fRef ((n, kd, th, ca), rw, pp, cs) q num a = -2 := by
  simp only [fRef, h]
  cases ixo 32 q <;> rfl
theorem fRef_some {n i : Nat} {kd : Nat → Int32} {th : Nat → Bool} {ca : Nat → Nat} {rw : Nat → List Int64} {pp : (Nat → Int64) × (Nat → Nat)} {cs : Int32 × Int32 × Int32 × Int32 × Int32 × Int32} {q num : Int32} {a : Int64} (h : ixt n num = some i) : fRef ((n, kd, th, ca), rw, pp, cs) q num a = rfS rw q (kd i) (th i) a := by
  simp only [fRef, rfS, h]
  cases ixo 32 q <;> rfl
theorem fAgain_no {A : Ab} {q num : Int32} {a : Int64} (h : ¬ fRef A q num a = 0) : fAgain A q num a = (fRef A q num a).toInt64 := if_neg h
theorem fCall_no {A : Ab} {q num : Int32} {a : Int64} (h : ¬ fRef A q num a = 0) : fCall A q num a = fRfs A := if_neg h
theorem fAgain_yes {A : Ab} {k i : Nat} {num : Int32} {a : Int64} (h : fRef A (nI k) num a = 0) (hk : k < 32) (hi : ixt A.1.1 num = some i) : fAgain A (nI k) num a = fTry A k i a := by
  unfold fAgain
  rw [if_pos h, ixo_in hk (by decide), hi]
  rfl
theorem fCall_yes {A : Ab} {k i : Nat} {num : Int32} {a : Int64} (h : fRef A (nI k) num a = 0) (hk : k < 32) (hi : ixt A.1.1 num = some i) : fCall A (nI k) num a = fDone A k i (nI k) num := by
  unfold fCall
  rw [if_pos h, ixo_in hk (by decide), hi]
  rfl

set_option maxHeartbeats 4000000 in
set_option maxRecDepth 100000 in
/-- MainframeDesk.again(call, number, a) -/
theorem m_dagain {l : Launch} {s0 : State} {D : va_G} {G ad : Nat → Nat} {w : mm} (E : Bs l s0 D G ad) {x : Nat} {n : Nat} {kd : Nat → Int32} {th : Nat → Bool} {ca : Nat → Nat} {rw : Nat → List Int64} {an : Nat → Int64} {fl : Nat → Nat} {c0 c1 c2 c3 c4 c5 : Int32} (h : DK ad G w x ((n, kd, th, ca), rw, (an, fl), (c0, c1, c2, c3, c4, c5))) (hn : n ≤ 200) (hlen : ∀ k, (rw k).length ≤ 50) (hfl : ∀ k, fl k ≤ 6) (q num : Int32) (b : Int64) : Mt l yX0_again cX0_again 10 (some FieldType.long) (rmk 11 5 233 10340) [.ref x, .int q, .int num, .long b] s0 D w (Ql s0 D (fun r w1 => r = fAgain ((n, kd, th, ca), rw, (an, fl), (c0, c1, c2, c3, c4, c5)) q num b ∧ DK ad G w1 x ((n, kd, th, ca), rw, (an, fl), (c0, c1, c2, c3, c4, c5)) ∧ Kp MT w w1)) := by
  refine Met.go E (by decide +kernel) (Nat.le_of_ble_eq_true rfl) (fun p ev s m below meth c ls M hr hlk hnm hl hP => ?_)
  have hx := M.1.1
  have hb := M.1.2.1
  have hl : lv_has ls 10 [(0, .ref x), (1, .int q), (2, .int num), (3, .long b)] := hl
  obtain ⟨tl, rl, pa, ya, hxo, hT, hR, hPa⟩ := h
  refine lv_aload_n hx hb dX0_again_0 rfl (lv_at hl 0 rfl) ?_
  refine lv_iload_n hx hb dX0_again_1 rfl (lv_at hl 2 rfl) ?_
  refine c_q (r_runV 1 M (m_find E hxo hT hn num) hP (Rc.of cdX0 hxo) (lw_V q268 q270 qs3 q12 q271) (by decide +kernel) rfl ⟨Nat.le_of_ble_eq_true rfl, Nat.le_of_ble_eq_true rfl⟩ hl.1 rfl (Nat.le_of_ble_eq_true rfl) dX0_again_2 ⟨Nat.le_of_ble_eq_true rfl, Nat.le_of_ble_eq_true rfl⟩) hP (fun r w1 H locs hq hP => ?_)
  obtain ⟨hq, ew⟩ := hq
  rw [ew] at hP
  rcases hq with ⟨hi, rfl⟩ | ⟨i, st, hi, hin, hnum, rfl, hth, hst⟩
  · refine lv_astoreN (lv' := [(5, .null), (0, .ref x), (1, .int q), (2, .int num), (3, .long b)]) hx hb dX0_again_5 hl (by decide) rfl (fun ls hl => ?_)
    refine lv_aload_n hx hb dX0_again_7 rfl (lv_at hl 1 rfl) ?_
    refine lv_iload_n hx hb dX0_again_8 rfl (lv_at hl 2 rfl) ?_
    refine lv_aloadN hx hb dX0_again_9 (lv_at hl 0 rfl) ?_
    refine lv_lload_n hx hb dX0_again_11 rfl (lv_at hl 4 rfl) ?_
    refine c_i (r_runV 3 M (m_refN E x q b) hP (Rc.of cdX0 hxo) (lw_V q282 q284 qs4 q12 q285) (by decide +kernel) rfl ⟨Nat.le_of_ble_eq_true rfl, Nat.le_of_ble_eq_true rfl⟩ hl.1 rfl (Nat.le_of_ble_eq_true rfl) dX0_again_12 ⟨Nat.le_of_ble_eq_true rfl, Nat.le_of_ble_eq_true rfl⟩) hP (fun r w2 H locs hq hP => ?_)
    obtain ⟨er, ew⟩ := hq
    rw [ew] at hP
    rw [er]
    refine lv_istore (lv' := [(6, .int (-2)), (5, .null), (0, .ref x), (1, .int q), (2, .int num), (3, .long b)]) hx hb dX0_again_15 hl (by decide) rfl (fun ls hl => ?_)
    refine lv_iload hx hb dX0_again_17 (lv_at hl 0 rfl) ?_
    refine lv_if_eq (tgt := 26) hx hb dX0_again_19 (by decide) (fun c9 => absurd c9 (by decide)) (fun _ => ?_)
    refine lv_iload hx hb dX0_again_22 (lv_at hl 0 rfl) ?_
    refine lv_i2l hx hb dX0_again_24 rfl ?_
    have hf : fRef ((n, kd, th, ca), rw, (an, fl), (c0, c1, c2, c3, c4, c5)) q num b = -2 := fRef_none hi
    exact r_lret M hr hlk hP ⟨by rw [fAgain_no (by rw [hf]; decide), hf], ⟨tl, rl, pa, ya, hxo, hT, hR, hPa⟩, Kp.rf⟩ dX0_again_25 (Nat.le_of_ble_eq_true rfl) (Nat.le_of_ble_eq_true rfl)
  · refine lv_astore (lv' := [(5, .ref (ya i)), (0, .ref x), (1, .int q), (2, .int num), (3, .long b)]) hx hb dX0_again_5 hl (by decide) rfl (fun ls hl => ?_)
    refine lv_aload_n hx hb dX0_again_7 rfl (lv_at hl 1 rfl) ?_
    refine lv_iload_n hx hb dX0_again_8 rfl (lv_at hl 2 rfl) ?_
    refine lv_aload hx hb dX0_again_9 (lv_at hl 0 rfl) ?_
    refine lv_lload_n hx hb dX0_again_11 rfl (lv_at hl 4 rfl) ?_
    refine c_i (r_runV 3 M (m_refS E hxo hth hst hR hlen q b) hP (Rc.of cdX0 hxo) (lw_V q282 q284 qs4 q12 q285) (by decide +kernel) rfl ⟨Nat.le_of_ble_eq_true rfl, Nat.le_of_ble_eq_true rfl⟩ hl.1 rfl (Nat.le_of_ble_eq_true rfl) dX0_again_12 ⟨Nat.le_of_ble_eq_true rfl, Nat.le_of_ble_eq_true rfl⟩) hP (fun r w2 H locs hq hP => ?_)
    obtain ⟨er, ew⟩ := hq
    rw [ew] at hP
    rw [er]
    have hf : fRef ((n, kd, th, ca), rw, (an, fl), (c0, c1, c2, c3, c4, c5)) q num b = rfS rw q (kd i) (th i) b := fRef_some hi
    rw [← hf]
    obtain ⟨rv, erv⟩ : ∃ z, fRef ((n, kd, th, ca), rw, (an, fl), (c0, c1, c2, c3, c4, c5)) q num b = z := ⟨_, rfl⟩
    rw [erv]
    refine lv_istore (lv' := [(6, .int rv), (5, .ref (ya i)), (0, .ref x), (1, .int q), (2, .int num), (3, .long b)]) hx hb dX0_again_15 hl (by decide) rfl (fun ls hl => ?_)
    refine lv_iload hx hb dX0_again_17 (lv_at hl 0 rfl) ?_
    by_cases hz : rv = 0
    · subst hz
      refine lv_if_eq (tgt := 26) hx hb dX0_again_19 (by decide) (fun _ => ?_) (fun c9 => absurd (rfl) c9)
      rcases pk_ix q (n := 32) (by decide) with h | h | ⟨k, hk, rfl⟩
      · exact absurd (hf.symm.trans erv) (by simp only [rfS, ixo_neg h]; decide)
      · exact absurd (hf.symm.trans erv) (by simp only [rfS, ixo_ge h]; decide)
      · refine lv_aload_n hx hb dX0_again_26 rfl (lv_at hl 2 rfl) ?_
        refine r_get M cdX0 hP hxo 3 (by decide) q160 (fun _ h9 => h9) rfl dX0_again_27 ?_
        refine lv_istore (lv' := [(7, .int c0), (6, .int 0), (5, .ref (ya i)), (0, .ref x), (1, .int (nI k)), (2, .int num), (3, .long b)]) hx hb dX0_again_30 hl (by decide) rfl (fun ls hl => ?_)
        refine lv_aload_n hx hb dX0_again_32 rfl (lv_at hl 3 rfl) ?_
        refine lv_iload_n hx hb dX0_again_33 rfl (lv_at hl 4 rfl) ?_
        refine lv_aload hx hb dX0_again_34 (lv_at hl 2 rfl) ?_
        refine lv_lload_n hx hb dX0_again_36 rfl (lv_at hl 6 rfl) ?_
        by_cases hf0 : fl k = 0
        · refine c_l (r_runVW 3 M (m_triedV E hxo hth hR hPa hlen hk hf0) hP (Rc.of cdX0 hxo) (lw_VW q291 q293 qs5 q12 q294) (by decide +kernel) rfl ⟨Nat.le_of_ble_eq_true rfl, Nat.le_of_ble_eq_true rfl⟩ hl.1 rfl (Nat.le_of_ble_eq_true rfl) dX0_again_37 ⟨Nat.le_of_ble_eq_true rfl, Nat.le_of_ble_eq_true rfl⟩) hP (fun r w3 H locs hq hP => ?_)
          obtain ⟨er, ew⟩ := hq
          rw [ew] at hP
          rw [er]
          refine lv_lstore (lv' := [(8, .long (an k + b + vsum (rowA rw k) + (if kd i = 3 then (nI (ca i)).toInt64 else 0))), (7, .int c0), (6, .int 0), (5, .ref (ya i)), (0, .ref x), (1, .int (nI k)), (2, .int num), (3, .long b)]) hx hb dX0_again_40 hl (by decide) rfl (fun ls hl => ?_)
          refine lv_aload_n hx hb dX0_again_42 rfl (lv_at hl 4 rfl) ?_
          refine lv_iload hx hb dX0_again_43 (lv_at hl 1 rfl) ?_
          refine r_put (v := .int c0) M cdX0 hP hxo 3 (by decide) q160 (fun _ h9 => h9) rfl rfl rfl (Nat.le_of_ble_eq_true rfl) dX0_again_45 (fun H locs hP => ?_)
          obtain ⟨w4, ew4⟩ : ∃ z : mm, z = mset w x (1, oD tl rl pa c0 c1 c2 c3 c4 c5) := ⟨_, rfl⟩
          have hP := Px.re ew4 hP
          rw [mset_same hxo] at ew4
          rw [ew4] at hP
          refine lv_lload hx hb dX0_again_48 (lv_at hl 0 rfl) ?_
          exact r_lret M hr hlk hP ⟨by rw [fAgain_yes erv hk hi, fTry, if_pos hf0]; rfl, ⟨tl, rl, pa, ya, hxo, hT, hR, hPa⟩, Kp.rf⟩ dX0_again_50 (Nat.le_of_ble_eq_true rfl) (Nat.le_of_ble_eq_true rfl)
        · have h6 := hfl k
          refine c_l (r_runVW 3 M (m_triedX E hxo hth hR hPa hlen hk rfl (by omega) h6) hP (Rc.of cdX0 hxo) (lw_VW q291 q293 qs5 q12 q294) (by decide +kernel) rfl ⟨Nat.le_of_ble_eq_true rfl, Nat.le_of_ble_eq_true rfl⟩ hl.1 rfl (Nat.le_of_ble_eq_true rfl) dX0_again_37 ⟨Nat.le_of_ble_eq_true rfl, Nat.le_of_ble_eq_true rfl⟩) hP (fun r w3 H locs hq hP => ?_)
          obtain ⟨er, ew3⟩ := hq
          rw [er]
          refine lv_lstore (lv' := [(8, .long (-10 - (nI (fl k)).toInt64)), (7, .int c0), (6, .int 0), (5, .ref (ya i)), (0, .ref x), (1, .int (nI k)), (2, .int num), (3, .long b)]) hx hb dX0_again_40 hl (by decide) rfl (fun ls hl => ?_)
          refine lv_aload_n hx hb dX0_again_42 rfl (lv_at hl 4 rfl) ?_
          refine lv_iload hx hb dX0_again_43 (lv_at hl 1 rfl) ?_
          have hx3 : w3 x = some (1, oD tl rl pa (nI (fl k)) c1 c2 c3 c4 c5) := by rw [ew3]; exact mset_self ..
          refine r_put (v := .int c0) M cdX0 hP hx3 3 (by decide) q160 (fun _ h9 => h9) rfl rfl rfl (Nat.le_of_ble_eq_true rfl) dX0_again_45 (fun H locs hP => ?_)
          obtain ⟨w4, ew4⟩ : ∃ z : mm, z = mset w3 x (1, oD tl rl pa c0 c1 c2 c3 c4 c5) := ⟨_, rfl⟩
          have hP := Px.re ew4 hP
          rw [ew3, mset_mset, mset_same hxo] at ew4
          rw [ew4] at hP
          refine lv_lload hx hb dX0_again_48 (lv_at hl 0 rfl) ?_
          exact r_lret M hr hlk hP ⟨by rw [fAgain_yes erv hk hi, fTry, if_neg hf0], ⟨tl, rl, pa, ya, hxo, hT, hR, hPa⟩, Kp.rf⟩ dX0_again_50 (Nat.le_of_ble_eq_true rfl) (Nat.le_of_ble_eq_true rfl)
    · refine lv_if_eq (tgt := 26) hx hb dX0_again_19 (by decide) (fun c9 => absurd c9 (hz)) (fun _ => ?_)
      refine lv_iload hx hb dX0_again_22 (lv_at hl 0 rfl) ?_
      refine lv_i2l hx hb dX0_again_24 rfl ?_
      exact r_lret M hr hlk hP ⟨by rw [fAgain_no (by rw [erv]; exact hz), erv], ⟨tl, rl, pa, ya, hxo, hT, hR, hPa⟩, Kp.rf⟩ dX0_again_25 (Nat.le_of_ble_eq_true rfl) (Nat.le_of_ble_eq_true rfl)
set_option maxHeartbeats 4000000 in
set_option maxRecDepth 100000 in
/-- MainframeDesk.call(call, number, a) -/
theorem m_dcall {l : Launch} {s0 : State} {D : va_G} {G ad : Nat → Nat} {w : mm} (E : Bs l s0 D G ad) {x : Nat} {n : Nat} {kd : Nat → Int32} {th : Nat → Bool} {ca : Nat → Nat} {rw : Nat → List Int64} {an : Nat → Int64} {fl : Nat → Nat} {c0 c1 c2 c3 c4 c5 : Int32} (h : DK ad G w x ((n, kd, th, ca), rw, (an, fl), (c0, c1, c2, c3, c4, c5))) (hn : n ≤ 200) (hlen : ∀ k, (rw k).length ≤ 50) (hfl : ∀ k, fl k ≤ 6) (q num : Int32) (b : Int64) : Mt l yX0_call cX0_call 10 (some FieldType.long) (rmk 11 5 233 10340) [.ref x, .int q, .int num, .long b] s0 D w (Ql s0 D (fun r w1 => r = fAgain ((n, kd, th, ca), rw, (an, fl), (c0, c1, c2, c3, c4, c5)) q num b ∧ DK ad G w1 x (fCall ((n, kd, th, ca), rw, (an, fl), (c0, c1, c2, c3, c4, c5)) q num b) ∧ Kp MT w w1)) := by
  refine Met.go E (by decide +kernel) (Nat.le_of_ble_eq_true rfl) (fun p ev s m below meth c ls M hr hlk hnm hl hP => ?_)
  have hx := M.1.1
  have hb := M.1.2.1
  have hl : lv_has ls 10 [(0, .ref x), (1, .int q), (2, .int num), (3, .long b)] := hl
  obtain ⟨tl, rl, pa, ya, hxo, hT, hR, hPa⟩ := h
  refine lv_aload_n hx hb dX0_call_0 rfl (lv_at hl 0 rfl) ?_
  refine lv_iload_n hx hb dX0_call_1 rfl (lv_at hl 2 rfl) ?_
  refine c_q (r_runV 1 M (m_find E hxo hT hn num) hP (Rc.of cdX0 hxo) (lw_V q268 q270 qs3 q12 q271) (by decide +kernel) rfl ⟨Nat.le_of_ble_eq_true rfl, Nat.le_of_ble_eq_true rfl⟩ hl.1 rfl (Nat.le_of_ble_eq_true rfl) dX0_call_2 ⟨Nat.le_of_ble_eq_true rfl, Nat.le_of_ble_eq_true rfl⟩) hP (fun r w1 H locs hq hP => ?_)
  obtain ⟨hq, ew⟩ := hq
  rw [ew] at hP
  rcases hq with ⟨hi, rfl⟩ | ⟨i, st, hi, hin, hnum, rfl, hth, hst⟩
  · refine lv_astoreN (lv' := [(5, .null), (0, .ref x), (1, .int q), (2, .int num), (3, .long b)]) hx hb dX0_call_5 hl (by decide) rfl (fun ls hl => ?_)
    refine lv_aload_n hx hb dX0_call_7 rfl (lv_at hl 1 rfl) ?_
    refine lv_iload_n hx hb dX0_call_8 rfl (lv_at hl 2 rfl) ?_
    refine lv_aloadN hx hb dX0_call_9 (lv_at hl 0 rfl) ?_
    refine lv_lload_n hx hb dX0_call_11 rfl (lv_at hl 4 rfl) ?_
    refine c_i (r_runV 3 M (m_refN E x q b) hP (Rc.of cdX0 hxo) (lw_V q282 q284 qs4 q12 q285) (by decide +kernel) rfl ⟨Nat.le_of_ble_eq_true rfl, Nat.le_of_ble_eq_true rfl⟩ hl.1 rfl (Nat.le_of_ble_eq_true rfl) dX0_call_12 ⟨Nat.le_of_ble_eq_true rfl, Nat.le_of_ble_eq_true rfl⟩) hP (fun r w2 H locs hq hP => ?_)
    obtain ⟨er, ew⟩ := hq
    rw [ew] at hP
    rw [er]
    refine lv_istore (lv' := [(6, .int (-2)), (5, .null), (0, .ref x), (1, .int q), (2, .int num), (3, .long b)]) hx hb dX0_call_15 hl (by decide) rfl (fun ls hl => ?_)
    refine lv_iload hx hb dX0_call_17 (lv_at hl 0 rfl) ?_
    refine lv_if_eq (tgt := 36) hx hb dX0_call_19 (by decide) (fun c9 => absurd c9 (by decide)) (fun _ => ?_)
    have hf : fRef ((n, kd, th, ca), rw, (an, fl), (c0, c1, c2, c3, c4, c5)) q num b = -2 := fRef_none hi
    have hno : ¬ fRef ((n, kd, th, ca), rw, (an, fl), (c0, c1, c2, c3, c4, c5)) q num b = 0 := by rw [hf]; decide
    refine lv_aload_n hx hb dX0_call_22 rfl (lv_at hl 2 rfl) ?_
    refine lv_dup hx hb dX0_call_23 rfl ?_
    refine r_get M cdX0 hP hxo 7 (by decide) q164 (fun _ h9 => h9) rfl dX0_call_24 ?_
    refine lv_iconst (v := 1) hx hb dX0_call_27 (by decide) ?_
    refine lv_iadd hx hb dX0_call_28 ?_
    refine r_put (v := .int (c4 + 1)) M cdX0 hP hxo 7 (by decide) q164 (fun _ h9 => h9) rfl rfl rfl (Nat.le_of_ble_eq_true rfl) dX0_call_29 (fun H locs hP => ?_)
    obtain ⟨w4, ew4⟩ : ∃ z : mm, z = mset w x (1, oD tl rl pa c0 c1 c2 c3 (c4 + 1) c5) := ⟨_, rfl⟩
    have hP := Px.re ew4 hP
    have hk4 : Kp (fun t => t ≠ 1) w w4 := by rw [ew4]; exact Kp.put hxo (fun z => z rfl)
    have hx4 : w4 x = some (1, oD tl rl pa c0 c1 c2 c3 (c4 + 1) c5) := by rw [ew4]; exact mset_self ..
    refine lv_iload hx hb dX0_call_32 (lv_at hl 0 rfl) ?_
    refine lv_i2l hx hb dX0_call_34 rfl ?_
    exact r_lret M hr hlk hP ⟨by rw [fAgain_no hno, hf], by rw [fCall_no hno]; exact ⟨tl, rl, pa, ya, hx4, hT.kp hk4 (fun t ht => by omega), hR.kp (by omega) hk4 (fun t ht => by omega), hPa.kp hk4 (fun t ht => by omega)⟩, hk4.mono (fun t ht => by unfold MT at ht; omega)⟩ dX0_call_35 (Nat.le_of_ble_eq_true rfl) (Nat.le_of_ble_eq_true rfl)
  · refine lv_astore (lv' := [(5, .ref (ya i)), (0, .ref x), (1, .int q), (2, .int num), (3, .long b)]) hx hb dX0_call_5 hl (by decide) rfl (fun ls hl => ?_)
    refine lv_aload_n hx hb dX0_call_7 rfl (lv_at hl 1 rfl) ?_
    refine lv_iload_n hx hb dX0_call_8 rfl (lv_at hl 2 rfl) ?_
    refine lv_aload hx hb dX0_call_9 (lv_at hl 0 rfl) ?_
    refine lv_lload_n hx hb dX0_call_11 rfl (lv_at hl 4 rfl) ?_
    refine c_i (r_runV 3 M (m_refS E hxo hth hst hR hlen q b) hP (Rc.of cdX0 hxo) (lw_V q282 q284 qs4 q12 q285) (by decide +kernel) rfl ⟨Nat.le_of_ble_eq_true rfl, Nat.le_of_ble_eq_true rfl⟩ hl.1 rfl (Nat.le_of_ble_eq_true rfl) dX0_call_12 ⟨Nat.le_of_ble_eq_true rfl, Nat.le_of_ble_eq_true rfl⟩) hP (fun r w2 H locs hq hP => ?_)
    obtain ⟨er, ew⟩ := hq
    rw [ew] at hP
    rw [er]
    have hf0 : fRef ((n, kd, th, ca), rw, (an, fl), (c0, c1, c2, c3, c4, c5)) q num b = rfS rw q (kd i) (th i) b := fRef_some hi
    rw [← hf0]
    obtain ⟨rv, hf⟩ : ∃ z, fRef ((n, kd, th, ca), rw, (an, fl), (c0, c1, c2, c3, c4, c5)) q num b = z := ⟨_, rfl⟩
    rw [hf]
    refine lv_istore (lv' := [(6, .int rv), (5, .ref (ya i)), (0, .ref x), (1, .int q), (2, .int num), (3, .long b)]) hx hb dX0_call_15 hl (by decide) rfl (fun ls hl => ?_)
    refine lv_iload hx hb dX0_call_17 (lv_at hl 0 rfl) ?_
    by_cases hz : rv = 0
    · subst hz
      refine lv_if_eq (tgt := 36) hx hb dX0_call_19 (by decide) (fun _ => ?_) (fun c9 => absurd (rfl) c9)
      rcases pk_ix q (n := 32) (by decide) with h | h | ⟨k, hk, rfl⟩
      · exact absurd (hf0.symm.trans hf) (by simp only [rfS, ixo_neg h]; decide)
      · exact absurd (hf0.symm.trans hf) (by simp only [rfS, ixo_ge h]; decide)
      · refine lv_aload_n hx hb dX0_call_36 rfl (lv_at hl 2 rfl) ?_
        refine r_get M cdX0 hP hxo 3 (by decide) q160 (fun _ h9 => h9) rfl dX0_call_37 ?_
        refine lv_istore (lv' := [(7, .int c0), (6, .int 0), (5, .ref (ya i)), (0, .ref x), (1, .int (nI k)), (2, .int num), (3, .long b)]) hx hb dX0_call_40 hl (by decide) rfl (fun ls hl => ?_)
        refine lv_aload_n hx hb dX0_call_42 rfl (lv_at hl 3 rfl) ?_
        refine lv_iconst (v := 0) hx hb dX0_call_43 (by decide) ?_
        refine r_put (v := .int 0) M cdX0 hP hxo 3 (by decide) q160 (fun _ h9 => h9) rfl rfl rfl (Nat.le_of_ble_eq_true rfl) dX0_call_44 (fun H locs hP => ?_)
        obtain ⟨w1, ew1⟩ : ∃ z : mm, z = mset w x (1, oD tl rl pa 0 c1 c2 c3 c4 c5) := ⟨_, rfl⟩
        have hP := Px.re ew1 hP
        have hk1 : Kp (fun t => t ≠ 1) w w1 := by rw [ew1]; exact Kp.put hxo (fun z => z rfl)
        have hx1 : w1 x = some (1, oD tl rl pa 0 c1 c2 c3 c4 c5) := by rw [ew1]; exact mset_self ..
        have hth1 := hk1 _ _ _ hth (by omega)
        have hR1 := hR.kp (by omega) hk1 (fun t ht => by omega)
        have hPa1 := hPa.kp hk1 (fun t ht => by omega)
        have hT1 := hT.kp hk1 (fun t ht => by omega)
        refine lv_aload_n hx hb dX0_call_47 rfl (lv_at hl 3 rfl) ?_
        refine lv_iload_n hx hb dX0_call_48 rfl (lv_at hl 4 rfl) ?_
        refine lv_aload hx hb dX0_call_49 (lv_at hl 2 rfl) ?_
        refine lv_lload_n hx hb dX0_call_51 rfl (lv_at hl 6 rfl) ?_
        have mid : ∀ (va : Int64) (cx : Int32) (w2 : mm) (H : Heap) (locs : List Loc) (ls : Array Slot), w2 x = some (1, oD tl rl pa cx c1 c2 c3 c4 c5) → Kp (fun t => t ≠ 1) w w2 → Px s0 D w2 H locs → lv_has ls 10 [(8, .long va), (7, .int c0), (6, .int 0), (5, .ref (ya i)), (0, .ref x), (1, .int (nI k)), (2, .int num), (3, .long b)] → (∀ (w3 : mm) (H : Heap) (locs : List Loc), w3 x = some (1, oD tl rl pa cx c1 c2 c3 c4 c5) → RwL ad G w3 rl 4 (clrA rw k) → Kp (fun t => t ≠ 1 ∧ ¬ (20 ≤ t ∧ t < 40)) w w3 → Px s0 D w3 H locs → W p l ev (rmk 11 5 233 10340) s m #[Value.ref x, Value.int (nI k), Value.int num, Value.long b] below meth c H locs 5 233 (MQ below (Ql s0 D (fun r w1 => r = fAgain ((n, kd, th, ca), rw, (an, fl), (c0, c1, c2, c3, c4, c5)) (nI k) num b ∧ DK ad G w1 x (fCall ((n, kd, th, ca), rw, (an, fl), (c0, c1, c2, c3, c4, c5)) (nI k) num b) ∧ Kp MT w w1)) #[Value.ref x, Value.int (nI k), Value.int num, Value.long b] s 5 233 (Fr s0)) (F0 m 79 ls [])) → W p l ev (rmk 11 5 233 10340) s m #[Value.ref x, Value.int (nI k), Value.int num, Value.long b] below meth c H locs 5 233 (MQ below (Ql s0 D (fun r w1 => r = fAgain ((n, kd, th, ca), rw, (an, fl), (c0, c1, c2, c3, c4, c5)) (nI k) num b ∧ DK ad G w1 x (fCall ((n, kd, th, ca), rw, (an, fl), (c0, c1, c2, c3, c4, c5)) (nI k) num b) ∧ Kp MT w w1)) #[Value.ref x, Value.int (nI k), Value.int num, Value.long b] s 5 233 (Fr s0)) (F0 m 57 ls []) := by
          intro va cx w2 H locs ls hx2 hk2 hP hl kk
          have hR2 := hR.kp (by omega) hk2 (fun t ht => by omega)
          refine lv_iload_n hx hb dX0_call_57 rfl (lv_at hl 5 rfl) ?_
          refine lv_bipush (v := 8) hx hb dX0_call_58 (by decide) ?_
          by_cases h8 : k < 8
          · refine lv_icmp_lt (tgt := 79) hx hb dX0_call_60 (by decide) (fun _ => ?_) (fun c9 => absurd (nI_lt (b := 8) h8 (by decide)) c9)
            exact kk w2 H locs hx2 (by rw [clrA, if_pos h8]; exact hR2) (hk2.mono (fun t ht => ht.1)) hP
          · refine lv_icmp_lt (tgt := 79) hx hb dX0_call_60 (by decide) (fun c9 => absurd c9 (nI_nlt (b := 8) (by omega) (by omega))) (fun _ => ?_)
            have hk4 : k % 4 < 4 := Nat.mod_lt _ (by decide)
            obtain ⟨mod, e, f, hL, hB, hv⟩ := hR2
            obtain ⟨ro, hg, rmod, re, rf, hrL, hrB, hrv⟩ := hv (k % 4) hk4
            refine lv_aload_n hx hb dX0_call_63 rfl (lv_at hl 4 rfl) ?_
            refine r_get M cdX0 hP hx2 1 (by decide) q158 (fun _ h9 => h9) rfl dX0_call_64 ?_
            refine lv_iload_n hx hb dX0_call_67 rfl (lv_at hl 5 rfl) ?_
            refine lv_iconst (v := 4) hx hb dX0_call_68 (by decide) ?_
            refine lv_irem hx hb dX0_call_69 (by decide) ?_
            rw [show nI k - nI k / 4 * 4 = nI (k % 4) from pk_rem (d := 4) (by omega) (by decide) (by decide)]
            refine c_r (r_runV 1 M (m_getL E hL hB hk4 hg) hP (Rc.of cdJ2 hL) (lw_V q189 q190 q191 q15 q192) (by decide +kernel) rfl ⟨Nat.le_of_ble_eq_true rfl, Nat.le_of_ble_eq_true rfl⟩ hl.1 rfl (Nat.le_of_ble_eq_true rfl) dX0_call_70 ⟨Nat.le_of_ble_eq_true rfl, Nat.le_of_ble_eq_true rfl⟩) hP (fun r w4 H locs hq hP => ?_)
            obtain ⟨er, ew⟩ := hq
            rw [ew] at hP
            rw [er]
            refine r_cast M hP cdJ2 (Rc.of cdJ2 hrL) q51 dX0_call_73 ?_
            refine c_v (r_runV 0 M (m_clear E hrL hrB (by omega)) hP (Rc.of cdJ2 hrL) (lw_V q526 q527 q528 q15 q529) (by decide +kernel) rfl ⟨Nat.le_of_ble_eq_true rfl, Nat.le_of_ble_eq_true rfl⟩ hl.1 rfl (Nat.le_of_ble_eq_true rfl) dX0_call_76 ⟨Nat.le_of_ble_eq_true rfl, Nat.le_of_ble_eq_true rfl⟩) hP (fun w3 H locs hq hP => ?_)
            obtain ⟨f1, z1, z2, hk3⟩ := hq
            have hk5 : Kp (fun t => t ≠ 1 ∧ ¬ (20 ≤ t ∧ t < 40)) w w3 := (hk2.mono (fun t ht => ht.1)).tr (hk3.mono (fun t ht => by omega))
            exact kk w3 H locs (hk3 _ _ _ hx2 (by omega)) (by rw [clrA, if_neg h8]; exact RwL.put hL hB hv (by omega) hk4 hg hk3 ⟨rmod + 1, re, f1, z1, z2, fun i v h => by cases h⟩) hk5 hP
        by_cases hf1 : fl k = 0
        · refine c_l (r_runVW 3 M (m_triedV E hx1 hth1 hR1 hPa1 hlen hk hf1) hP (Rc.of cdX0 hx1) (lw_VW q291 q293 qs5 q12 q294) (by decide +kernel) rfl ⟨Nat.le_of_ble_eq_true rfl, Nat.le_of_ble_eq_true rfl⟩ hl.1 rfl (Nat.le_of_ble_eq_true rfl) dX0_call_52 ⟨Nat.le_of_ble_eq_true rfl, Nat.le_of_ble_eq_true rfl⟩) hP (fun r w2 H locs hq hP => ?_)
          obtain ⟨er, ew⟩ := hq
          rw [ew] at hP
          rw [er]
          refine lv_lstore (lv' := [(8, .long (an k + b + vsum (rowA rw k) + (if kd i = 3 then (nI (ca i)).toInt64 else 0))), (7, .int c0), (6, .int 0), (5, .ref (ya i)), (0, .ref x), (1, .int (nI k)), (2, .int num), (3, .long b)]) hx hb dX0_call_55 hl (by decide) rfl (fun ls hl => ?_)
          refine mid (an k + b + vsum (rowA rw k) + (if kd i = 3 then (nI (ca i)).toInt64 else 0)) 0 w1 H locs ls hx1 hk1 hP hl (fun w3 H locs hx3 hR3 hk3 hP => ?_)
          refine lv_aload_n hx hb dX0_call_79 rfl (lv_at hl 4 rfl) ?_
          refine r_get M cdX0 hP hx3 3 (by decide) q160 (fun _ h9 => h9) rfl dX0_call_80 ?_
          refine lv_if_ne (tgt := 116) hx hb dX0_call_83 (by decide) (fun c9 => absurd (rfl) c9) (fun _ => ?_)
          refine lv_aload_n hx hb dX0_call_86 rfl (lv_at hl 4 rfl) ?_
          refine lv_iload hx hb dX0_call_87 (lv_at hl 1 rfl) ?_
          refine r_put (v := .int c0) M cdX0 hP hx3 3 (by decide) q160 (fun _ h9 => h9) rfl rfl rfl (Nat.le_of_ble_eq_true rfl) dX0_call_89 (fun H locs hP => ?_)
          obtain ⟨w4, ew4⟩ : ∃ z : mm, z = mset w3 x (1, oD tl rl pa c0 c1 c2 c3 c4 c5) := ⟨_, rfl⟩
          have hP := Px.re ew4 hP
          have hx4 : w4 x = some (1, oD tl rl pa c0 c1 c2 c3 c4 c5) := by rw [ew4]; exact mset_self ..
          have hk4 : Kp (fun t => t ≠ 1 ∧ ¬ (20 ≤ t ∧ t < 40)) w w4 := hk3.tr (by rw [ew4]; exact Kp.put hx3 (fun z => z.1 rfl))
          have hth4 := hk4 _ _ _ hth (by omega)
          refine lv_aload hx hb dX0_call_92 (lv_at hl 3 rfl) ?_
          refine lv_dup hx hb dX0_call_94 rfl ?_
          refine r_getN M cdX3 hP hth4 2 (by decide) (E.fnest M.2.1 q256) (fun _ h9 => h9) rfl dX0_call_95 ?_
          refine lv_iconst (v := 1) hx hb dX0_call_98 (by decide) ?_
          refine lv_iadd hx hb dX0_call_99 ?_
          rw [nI_1]
          refine r_putN (v := .int (nI (ca i + 1))) M cdX3 hP hth4 2 (by decide) (E.fnest M.2.1 q256) (fun _ h9 => h9) rfl rfl rfl (Nat.le_of_ble_eq_true rfl) dX0_call_100 (fun H locs hP => ?_)
          obtain ⟨w5, ew5⟩ : ∃ z : mm, z = mset w4 (ya i) (1000 + i, oH (kd i) st (nI (ca i + 1))) := ⟨_, rfl⟩
          have hP := Px.re ew5 hP
          have hk5 : Kp (fun t => t ≠ 1000 + i) w4 w5 := by rw [ew5]; exact Kp.put hth4 (fun z => z rfl)
          have hx5 := hk5 _ _ _ hx4 (by omega)
          have hT4 := hT.kp hk4 (fun t ht => by omega)
          have hT5 : ThL G w5 tl n kd th (va_up ca i (ca i + 1)) ya := by have z := ThL.put (c := ca i + 1) (b := th i) (st := st) hT4 hin hst; rw [va_up_same] at z; rw [ew5]; exact z
          refine lv_aload_n hx hb dX0_call_103 rfl (lv_at hl 4 rfl) ?_
          refine lv_dup hx hb dX0_call_104 rfl ?_
          refine r_get M cdX0 hP hx5 8 (by decide) q165 (fun _ h9 => h9) rfl dX0_call_105 ?_
          refine lv_iconst (v := 1) hx hb dX0_call_108 (by decide) ?_
          refine lv_iadd hx hb dX0_call_109 ?_
          refine r_put (v := .int (c5 + 1)) M cdX0 hP hx5 8 (by decide) q165 (fun _ h9 => h9) rfl rfl rfl (Nat.le_of_ble_eq_true rfl) dX0_call_110 (fun H locs hP => ?_)
          obtain ⟨w6, ew6⟩ : ∃ z : mm, z = mset w5 x (1, oD tl rl pa c0 c1 c2 c3 c4 (c5 + 1)) := ⟨_, rfl⟩
          have hP := Px.re ew6 hP
          have hk6 : Kp (fun t => t ≠ 1) w5 w6 := by rw [ew6]; exact Kp.put hx5 (fun z => z rfl)
          have hx6 : w6 x = some (1, oD tl rl pa c0 c1 c2 c3 c4 (c5 + 1)) := by rw [ew6]; exact mset_self ..
          have hk46 : Kp (fun t => t ≠ 1 ∧ t ≠ 1000 + i) w3 w6 := ((show Kp (fun t => t ≠ 1) w3 w4 by rw [ew4]; exact Kp.put hx3 (fun z => z rfl)).mono (fun t ht => ht.1)).tr ((hk5.mono (fun t ht => ht.2)).tr (hk6.mono (fun t ht => ht.1)))
          have hkA : Kp (fun t => t ≠ 1 ∧ t ≠ 1000 + i ∧ ¬ (20 ≤ t ∧ t < 40)) w w6 := (hk3.mono (fun t ht => ⟨ht.1, ht.2.2⟩)).tr (hk46.mono (fun t ht => ⟨ht.1, ht.2.1⟩))
          refine lv_lload hx hb dX0_call_113 (lv_at hl 0 rfl) ?_
          exact r_lret M hr hlk hP ⟨by rw [fAgain_yes hf hk hi, fTry, if_pos hf1]; rfl, by rw [fCall_yes hf hk hi, fDone, if_pos hf1]; exact ⟨tl, rl, pa, ya, hx6, hT5.kp hk6 (fun t ht => by omega), hR3.kp (by omega) hk46 (fun t ht => by omega), hPa.kp hkA (fun t ht => by omega)⟩, hkA.mono (fun t ht => by unfold MT at ht; omega)⟩ dX0_call_115 (Nat.le_of_ble_eq_true rfl) (Nat.le_of_ble_eq_true rfl)
        · have h6 := hfl k
          refine c_l (r_runVW 3 M (m_triedX E hx1 hth1 hR1 hPa1 hlen hk rfl (by omega) h6) hP (Rc.of cdX0 hx1) (lw_VW q291 q293 qs5 q12 q294) (by decide +kernel) rfl ⟨Nat.le_of_ble_eq_true rfl, Nat.le_of_ble_eq_true rfl⟩ hl.1 rfl (Nat.le_of_ble_eq_true rfl) dX0_call_52 ⟨Nat.le_of_ble_eq_true rfl, Nat.le_of_ble_eq_true rfl⟩) hP (fun r w2 H locs hq hP => ?_)
          obtain ⟨er, ew2⟩ := hq
          rw [er]
          refine lv_lstore (lv' := [(8, .long (-10 - (nI (fl k)).toInt64)), (7, .int c0), (6, .int 0), (5, .ref (ya i)), (0, .ref x), (1, .int (nI k)), (2, .int num), (3, .long b)]) hx hb dX0_call_55 hl (by decide) rfl (fun ls hl => ?_)
          have hx2 : w2 x = some (1, oD tl rl pa (nI (fl k)) c1 c2 c3 c4 c5) := by rw [ew2]; exact mset_self ..
          have hk2 : Kp (fun t => t ≠ 1) w w2 := hk1.tr (by rw [ew2]; exact Kp.put hx1 (fun z => z rfl))
          refine mid (-10 - (nI (fl k)).toInt64) (nI (fl k)) w2 H locs ls hx2 hk2 hP hl (fun w3 H locs hx3 hR3 hk3 hP => ?_)
          refine lv_aload_n hx hb dX0_call_79 rfl (lv_at hl 4 rfl) ?_
          refine r_get M cdX0 hP hx3 3 (by decide) q160 (fun _ h9 => h9) rfl dX0_call_80 ?_
          refine lv_if_ne (tgt := 116) hx hb dX0_call_83 (by decide) (fun _ => ?_) (fun c9 => absurd c9 (nI_ne0 (by omega) (by omega)))
          refine lv_aload_n hx hb dX0_call_116 rfl (lv_at hl 4 rfl) ?_
          refine lv_dup hx hb dX0_call_117 rfl ?_
          refine r_get M cdX0 hP hx3 6 (by decide) q163 (fun _ h9 => h9) rfl dX0_call_118 ?_
          refine lv_iconst (v := 1) hx hb dX0_call_121 (by decide) ?_
          refine lv_iadd hx hb dX0_call_122 ?_
          refine r_put (v := .int (c3 + 1)) M cdX0 hP hx3 6 (by decide) q163 (fun _ h9 => h9) rfl rfl rfl (Nat.le_of_ble_eq_true rfl) dX0_call_123 (fun H locs hP => ?_)
          obtain ⟨w4, ew4⟩ : ∃ z : mm, z = mset w3 x (1, oD tl rl pa (nI (fl k)) c1 c2 (c3 + 1) c4 c5) := ⟨_, rfl⟩
          have hP := Px.re ew4 hP
          have hx4 : w4 x = some (1, oD tl rl pa (nI (fl k)) c1 c2 (c3 + 1) c4 c5) := by rw [ew4]; exact mset_self ..
          refine lv_aload_n hx hb dX0_call_126 rfl (lv_at hl 4 rfl) ?_
          refine lv_iload_n hx hb dX0_call_127 rfl (lv_at hl 5 rfl) ?_
          refine r_put (v := .int (nI k)) M cdX0 hP hx4 4 (by decide) q161 (fun _ h9 => h9) rfl rfl rfl (Nat.le_of_ble_eq_true rfl) dX0_call_128 (fun H locs hP => ?_)
          obtain ⟨w5, ew5⟩ : ∃ z : mm, z = mset w4 x (1, oD tl rl pa (nI (fl k)) (nI k) c2 (c3 + 1) c4 c5) := ⟨_, rfl⟩
          have hP := Px.re ew5 hP
          have hx5 : w5 x = some (1, oD tl rl pa (nI (fl k)) (nI k) c2 (c3 + 1) c4 c5) := by rw [ew5]; exact mset_self ..
          refine lv_aload_n hx hb dX0_call_131 rfl (lv_at hl 4 rfl) ?_
          refine lv_iload_n hx hb dX0_call_132 rfl (lv_at hl 6 rfl) ?_
          refine r_put (v := .int num) M cdX0 hP hx5 5 (by decide) q162 (fun _ h9 => h9) rfl rfl rfl (Nat.le_of_ble_eq_true rfl) dX0_call_133 (fun H locs hP => ?_)
          obtain ⟨w6, ew6⟩ : ∃ z : mm, z = mset w5 x (1, oD tl rl pa (nI (fl k)) (nI k) num (c3 + 1) c4 c5) := ⟨_, rfl⟩
          have hP := Px.re ew6 hP
          have hx6 : w6 x = some (1, oD tl rl pa (nI (fl k)) (nI k) num (c3 + 1) c4 c5) := by rw [ew6]; exact mset_self ..
          have hk36 : Kp (fun t => t ≠ 1) w3 w6 := by rw [ew6, ew5, ew4, mset_mset, mset_mset]; exact Kp.put hx3 (fun z => z rfl)
          have hk6 : Kp (fun t => t ≠ 1 ∧ ¬ (20 ≤ t ∧ t < 40)) w w6 := hk3.tr (hk36.mono (fun t ht => ht.1))
          have hth6 := hk6 _ _ _ hth (by omega)
          have hT6 := hT.kp hk6 (fun t ht => by omega)
          refine lv_aload hx hb dX0_call_136 (lv_at hl 3 rfl) ?_
          refine r_gets M hP E.ended q530 (fun _ h9 => h9) dX0_call_138 ?_
          refine r_putN (v := .ref (G 8)) M cdX3 hP hth6 1 (by decide) (E.fnest M.2.1 q254) (fun _ h9 => h9) rfl rfl rfl (Nat.le_of_ble_eq_true rfl) dX0_call_141 (fun H locs hP => ?_)
          obtain ⟨w7, ew7⟩ : ∃ z : mm, z = mset w6 (ya i) (1000 + i, oH (kd i) (G 8) (nI (ca i))) := ⟨_, rfl⟩
          have hP := Px.re ew7 hP
          have hk67 : Kp (fun t => t ≠ 1000 + i) w6 w7 := by rw [ew7]; exact Kp.put hth6 (fun z => z rfl)
          have hT7 : ThL G w7 tl n kd (va_up th i false) ca ya := by have z := ThL.put (c := ca i) (b := false) (st := G 8) hT6 hin ⟨fun z => (by cases z), fun z => absurd z.symm E.ne8⟩; rw [va_up_same] at z; rw [ew7]; exact z
          have hkA : Kp (fun t => t ≠ 1 ∧ t ≠ 1000 + i ∧ ¬ (20 ≤ t ∧ t < 40)) w w7 := (hk6.mono (fun t ht => ⟨ht.1, ht.2.2⟩)).tr (hk67.mono (fun t ht => ht.2.1))
          have hk37 : Kp (fun t => t ≠ 1 ∧ t ≠ 1000 + i) w3 w7 := (hk36.mono (fun t ht => ht.1)).tr (hk67.mono (fun t ht => ht.2))
          refine lv_lload hx hb dX0_call_144 (lv_at hl 0 rfl) ?_
          exact r_lret M hr hlk hP ⟨by rw [fAgain_yes hf hk hi, fTry, if_neg hf1], by rw [fCall_yes hf hk hi, fDone, if_neg hf1]; exact ⟨tl, rl, pa, ya, hk67 _ _ _ hx6 (by omega), hT7, hR3.kp (by omega) hk37 (fun t ht => by omega), hPa.kp hkA (fun t ht => by omega)⟩, hkA.mono (fun t ht => by unfold MT at ht; omega)⟩ dX0_call_146 (Nat.le_of_ble_eq_true rfl) (Nat.le_of_ble_eq_true rfl)
    · refine lv_if_eq (tgt := 36) hx hb dX0_call_19 (by decide) (fun c9 => absurd c9 (hz)) (fun _ => ?_)
      have hno : ¬ fRef ((n, kd, th, ca), rw, (an, fl), (c0, c1, c2, c3, c4, c5)) q num b = 0 := by rw [hf]; exact hz
      refine lv_aload_n hx hb dX0_call_22 rfl (lv_at hl 2 rfl) ?_
      refine lv_dup hx hb dX0_call_23 rfl ?_
      refine r_get M cdX0 hP hxo 7 (by decide) q164 (fun _ h9 => h9) rfl dX0_call_24 ?_
      refine lv_iconst (v := 1) hx hb dX0_call_27 (by decide) ?_
      refine lv_iadd hx hb dX0_call_28 ?_
      refine r_put (v := .int (c4 + 1)) M cdX0 hP hxo 7 (by decide) q164 (fun _ h9 => h9) rfl rfl rfl (Nat.le_of_ble_eq_true rfl) dX0_call_29 (fun H locs hP => ?_)
      obtain ⟨w4, ew4⟩ : ∃ z : mm, z = mset w x (1, oD tl rl pa c0 c1 c2 c3 (c4 + 1) c5) := ⟨_, rfl⟩
      have hP := Px.re ew4 hP
      have hk4 : Kp (fun t => t ≠ 1) w w4 := by rw [ew4]; exact Kp.put hxo (fun z => z rfl)
      have hx4 : w4 x = some (1, oD tl rl pa c0 c1 c2 c3 (c4 + 1) c5) := by rw [ew4]; exact mset_self ..
      refine lv_iload hx hb dX0_call_32 (lv_at hl 0 rfl) ?_
      refine lv_i2l hx hb dX0_call_34 rfl ?_
      exact r_lret M hr hlk hP ⟨by rw [fAgain_no hno, hf], by rw [fCall_no hno]; exact ⟨tl, rl, pa, ya, hx4, hT.kp hk4 (fun t ht => by omega), hR.kp (by omega) hk4 (fun t ht => by omega), hPa.kp hk4 (fun t ht => by omega)⟩, hk4.mono (fun t ht => by unfold MT at ht; omega)⟩ dX0_call_35 (Nat.le_of_ble_eq_true rfl) (Nat.le_of_ble_eq_true rfl)
end
section
/-! ===== the desk's constructor ===== -/
theorem RwL.add {ad G : Nat → Nat} {w w1 : mm} {rl m y : Nat} {mod : Int32} {f : Nat → Option Nat} (h3 : ∀ k, k < m → ∃ y : Nat, f k = some y ∧ Rw ad G w y (20 + k) (30 + k) []) (hy : Rw ad G w y (20 + m) (30 + m) []) (hA : AdP G w rl 4 5 m y mod f w1) (hm : m < 4) : RwL ad G w1 rl (m + 1) (fun _ => []) := by
  obtain ⟨e1, cap, f1, g1, g2, g3, g4, g5, g6, g7⟩ := hA
  refine ⟨mod, e1, f1, g3, Or.inr ⟨cap, by omega, g2, by omega, g4⟩, fun i hi => ?_⟩
  by_cases hin : i = m
  · subst hin
    exact ⟨y, g6, hy.kp g7 (by omega) (by omega) (by omega)⟩
  · obtain ⟨z, q1, q2⟩ := h3 i (by omega)
    exact ⟨z, by rw [g5 i (by omega)]; exact q1, q2.kp g7 (by omega) (by omega) (by omega)⟩
/-- the first state -/
abbrev A0 : Ab := ((0, fun _ => 0, fun _ => false, fun _ => 0), fun _ => [], (fun _ => 0, fun _ => 0), (0, 0, 0, 0, 0, 0))

set_option maxHeartbeats 4000000 in
set_option maxRecDepth 100000 in
/-- MainframeDesk() -/
theorem m_dinit {l : Launch} {s0 : State} {D : va_G} {G ad : Nat → Nat} {w : mm} (E : Bs l s0 D G ad) {x : Nat} (h : w x = some (1, .inr (0, [.null, .null, .null, .int 0, .int 0, .int 0, .int 0, .int 0, .int 0]))) : Mt l yX0_init cX0_init 2 (none) (rmk 7 43 1314 200) [.ref x] s0 D w (Qv s0 D (fun w1 => DK ad G w1 x A0 ∧ Kp MT w w1)) := by
  refine Met.go E (by decide +kernel) (Nat.le_of_ble_eq_true rfl) (fun p ev s m below meth c ls M hr hlk hnm hl hP => ?_)
  have hx := M.1.1
  have hb := M.1.2.1
  have hl : lv_has ls 2 [(0, .ref x)] := hl
  refine lv_aload_n hx hb dX0_init_0 rfl (lv_at hl 0 rfl) ?_
  refine W.objInit hx hb M.1.2.2.2.1 (M.1.2.2.2.2 _ q48) (M.1.2.2.2.2 _ q49) (M.1.2.2.2.2 _ q50) rfl (by rw [M.1.2.2.1]; exact hl.1) rfl dX0_init_1 (Nat.le_of_ble_eq_true rfl) (Nat.le_of_ble_eq_true rfl) ?_
  refine lv_aload_n hx hb dX0_init_4 rfl (lv_at hl 0 rfl) ?_
  refine r_new M (fs := [.int 0, .null, .int 0]) 2 cdJ2 hP q51 q52 q15 (fun j hj => by (first | (have : j = 0 := by omega) | skip); revert j; decide) (Nat.le_of_ble_eq_true rfl) (Nat.le_of_ble_eq_true rfl) dX0_init_5 (fun tl H ntl hP => ?_)
  obtain ⟨w1, ew1⟩ : ∃ z : mm, z = mset w tl (2, .inr (4, [.int 0, .null, .int 0])) := ⟨_, rfl⟩
  have hP := Px.re ew1 hP
  have etl : w1 tl = some (2, .inr (4, [.int 0, .null, .int 0])) := by rw [ew1]; exact mset_self ..
  refine lv_dup hx hb dX0_init_8 rfl ?_
  refine c_v (r_runI 0 M (m_linit E tl 2 etl) hP q55 q15 q53 q54 rfl (by decide +kernel) rfl ⟨Nat.le_of_ble_eq_true rfl, Nat.le_of_ble_eq_true rfl⟩ hl.1 rfl (Nat.le_of_ble_eq_true rfl) dX0_init_9 ⟨Nat.le_of_ble_eq_true rfl, Nat.le_of_ble_eq_true rfl⟩) hP (fun w2 H locs hq1 hP => ?_)
  have ltl : w2 tl = some (2, oL 0 (G 5) 0) := by rw [hq1]; exact mset_self ..
  have k2 : Kp (fun t => t ≠ 2) w w2 := (show Kp (fun t => t ≠ 2) w w1 by rw [ew1]; exact Kp.new ntl).tr (by rw [hq1]; exact Kp.put etl (fun z => z rfl))
  have x2 := k2 _ _ _ h (by omega)
  refine r_putF (v := .ref tl) M cdX0 hP x2 0 (by decide) q157 (fun _ h9 => h9) rfl hnm rfl rfl rfl (Nat.le_of_ble_eq_true rfl) dX0_init_12 (fun H locs hP => ?_)
  obtain ⟨w3, ew3⟩ : ∃ z : mm, z = mset w2 x (1, .inr (0, [.ref tl, .null, .null, .int 0, .int 0, .int 0, .int 0, .int 0, .int 0])) := ⟨_, rfl⟩
  have hP := Px.re ew3 hP
  have x3 : w3 x = some (1, .inr (0, [.ref tl, .null, .null, .int 0, .int 0, .int 0, .int 0, .int 0, .int 0])) := by rw [ew3]; exact mset_self ..
  have k3 : Kp (fun t => t ≠ 1) w2 w3 := by rw [ew3]; exact Kp.put x2 (fun z => z rfl)
  refine lv_aload_n hx hb dX0_init_15 rfl (lv_at hl 0 rfl) ?_
  refine r_new M (fs := [.int 0, .null, .int 0]) 4 cdJ2 hP q51 q52 q15 (fun j hj => by (first | (have : j = 0 := by omega) | skip); revert j; decide) (Nat.le_of_ble_eq_true rfl) (Nat.le_of_ble_eq_true rfl) dX0_init_16 (fun rl H nrl hP => ?_)
  obtain ⟨w4, ew4⟩ : ∃ z : mm, z = mset w3 rl (4, .inr (4, [.int 0, .null, .int 0])) := ⟨_, rfl⟩
  have hP := Px.re ew4 hP
  have erl : w4 rl = some (4, .inr (4, [.int 0, .null, .int 0])) := by rw [ew4]; exact mset_self ..
  refine lv_dup hx hb dX0_init_19 rfl ?_
  refine c_v (r_runI 0 M (m_linit E rl 4 erl) hP q55 q15 q53 q54 rfl (by decide +kernel) rfl ⟨Nat.le_of_ble_eq_true rfl, Nat.le_of_ble_eq_true rfl⟩ hl.1 rfl (Nat.le_of_ble_eq_true rfl) dX0_init_20 ⟨Nat.le_of_ble_eq_true rfl, Nat.le_of_ble_eq_true rfl⟩) hP (fun w5 H locs hq4 hP => ?_)
  have lrl : w5 rl = some (4, oL 0 (G 5) 0) := by rw [hq4]; exact mset_self ..
  have k5 : Kp (fun t => t ≠ 4) w3 w5 := (show Kp (fun t => t ≠ 4) w3 w4 by rw [ew4]; exact Kp.new nrl).tr (by rw [hq4]; exact Kp.put erl (fun z => z rfl))
  have x5 := k5 _ _ _ x3 (by omega)
  refine r_putF (v := .ref rl) M cdX0 hP x5 1 (by decide) q158 (fun _ h9 => h9) rfl hnm rfl rfl rfl (Nat.le_of_ble_eq_true rfl) dX0_init_23 (fun H locs hP => ?_)
  obtain ⟨w6, ew6⟩ : ∃ z : mm, z = mset w5 x (1, .inr (0, [.ref tl, .ref rl, .null, .int 0, .int 0, .int 0, .int 0, .int 0, .int 0])) := ⟨_, rfl⟩
  have hP := Px.re ew6 hP
  have x6 : w6 x = some (1, .inr (0, [.ref tl, .ref rl, .null, .int 0, .int 0, .int 0, .int 0, .int 0, .int 0])) := by rw [ew6]; exact mset_self ..
  have k6 : Kp (fun t => t ≠ 1) w5 w6 := by rw [ew6]; exact Kp.put x5 (fun z => z rfl)
  refine lv_aload_n hx hb dX0_init_26 rfl (lv_at hl 0 rfl) ?_
  refine lv_bipush (v := 32) hx hb dX0_init_27 (by decide) ?_
  refine r_newP M hP 6 q80 (E.over M.2.1 q81) (by decide) (N' := 32) (by decide +kernel) (by decide) (Nat.le_of_ble_eq_true rfl) (Nat.le_of_ble_eq_true rfl) dX0_init_29 (fun pa H npa hP => ?_)
  obtain ⟨w7, ew7⟩ : ∃ z : mm, z = mset w6 pa (6, eP G 32 (fun _ => none)) := ⟨_, rfl⟩
  have hP := Px.re ew7 hP
  have k7 : Kp (fun _ => True) w6 w7 := by rw [ew7]; exact Kp.new npa
  have x7 := k7 _ _ _ x6 trivial
  have p7 : w7 pa = some (6, eP G 32 (fun _ => none)) := by rw [ew7]; exact mset_self ..
  refine r_putF (v := .ref pa) M cdX0 hP x7 2 (by decide) q159 (fun _ h9 => h9) rfl hnm rfl rfl rfl (Nat.le_of_ble_eq_true rfl) dX0_init_32 (fun H locs hP => ?_)
  obtain ⟨w8, ew8⟩ : ∃ z : mm, z = mset w7 x (1, oD tl rl pa 0 0 0 0 0 0) := ⟨_, rfl⟩
  have hP := Px.re ew8 hP
  have x8 : w8 x = some (1, oD tl rl pa 0 0 0 0 0 0) := by rw [ew8]; exact mset_self ..
  have k8 : Kp (fun t => t ≠ 1) w7 w8 := by rw [ew8]; exact Kp.put x7 (fun z => z rfl)
  have k38 : Kp (fun t => t ≠ 1 ∧ t ≠ 4) w2 w8 := (k3.mono (fun t ht => ht.1)).tr ((k5.mono (fun t ht => ht.2)).tr ((k6.mono (fun t ht => ht.1)).tr ((k7.mono (fun _ _ => trivial)).tr (k8.mono (fun t ht => ht.1)))))
  have t8 := k38 _ _ _ ltl (by omega)
  have r8 := k8 _ _ _ (k7 _ _ _ (k6 _ _ _ lrl (by omega)) trivial) (by omega)
  have p8 := k8 _ _ _ p7 (by omega)
  have kA : Kp MT w w8 := (k2.mono (fun t ht => by unfold MT at ht; omega)).tr (k38.mono (fun t ht => by unfold MT at ht; omega))
  refine lv_iconst (v := 0) hx hb dX0_init_35 (by decide) ?_
  refine lv_istore_n (lv' := [(1, .int (nI 0)), (0, .ref x)]) hx hb dX0_init_36 rfl hl (by decide) rfl (fun ls hl => ?_)
  have loop2 : ∀ (k i : Nat) (w' : mm) (f : Nat → Option Nat) (H : Heap) (locs : List Loc) (ls : Array Slot), i + k = 32 → w' x = some (1, oD tl rl pa 0 0 0 0 0 0) → w' tl = some (2, oL 0 (G 5) 0) → RwL ad G w' rl 4 (fun _ => []) → w' pa = some (6, eP G 32 f) → (∀ j, j < i → ∃ y : Nat, f j = some y ∧ w' y = some (100 + j, oP 0 (nI 0))) → Kp MT w w' → Px s0 D w' H locs → lv_has ls 2 [(1, .int (nI i)), (0, .ref x)] → W p l ev (rmk 7 43 1314 200) s m #[Value.ref x] below meth c H locs (11 + i) (1250 + 2 * i) (MQ below (Qv s0 D (fun w1 => DK ad G w1 x A0 ∧ Kp MT w w1)) #[Value.ref x] s 43 1314 (Fr s0)) (F0 m 65 ls []) := by
    intro k
    induction k with
    | zero =>
      intro i w' f H locs ls hik hx' ht' hR' hp' hq' hk hP hl
      refine lv_iload_n hx hb dX0_init_65 rfl (lv_at hl 0 rfl) ?_
      refine lv_bipush (v := 32) hx hb dX0_init_66 (by decide) ?_
      have hi : i = 32 := by omega
      refine lv_icmp_ge (tgt := 90) hx hb dX0_init_68 (by decide) (fun _ => ?_) (fun c9 => absurd (by rw [hi]; decide +kernel) c9)
      rw [hi] at hq'
      exact r_vret M hr hlk hP ⟨⟨tl, rl, pa, fun _ => 0, hx', ⟨0, G 5, fun _ => none, ht', Or.inl ⟨rfl, rfl⟩, fun j hj => absurd hj (Nat.not_lt_zero j)⟩, hR', ⟨f, hp', hq'⟩⟩, hk⟩ dX0_init_90 (by omega) (by omega)
    | succ k ih =>
      intro i w' f H locs ls hik hx' ht' hR' hp' hq' hk hP hl
      refine lv_iload_n hx hb dX0_init_65 rfl (lv_at hl 0 rfl) ?_
      refine lv_bipush (v := 32) hx hb dX0_init_66 (by decide) ?_
      refine lv_icmp_ge (tgt := 90) hx hb dX0_init_68 (by decide) (fun c9 => absurd c9 (nI_ge (b := 32) (by omega) (by decide))) (fun _ => ?_)
      refine lv_aload_n hx hb dX0_init_71 rfl (lv_at hl 1 rfl) ?_
      refine r_get M cdX0 hP hx' 2 (by decide) q159 (fun _ h9 => h9) rfl dX0_init_72 ?_
      refine lv_iload_n hx hb dX0_init_75 rfl (lv_at hl 0 rfl) ?_
      refine r_new M (fs := [.long 0, .int 0]) (100 + i) cdX1 hP q80 q143 q20 (fun j hj => by (first | (have : j = 0 := by omega) | skip); revert j; decide) (by show 11 + i + 1 ≤ 43; omega) (by show 1250 + 2 * i + 2 ≤ 1314; omega) dX0_init_76 (fun y H ny hP => ?_)
      obtain ⟨v1, ev1⟩ : ∃ z : mm, z = mset w' y ((100 + i), .inr (1, [.long 0, .int 0])) := ⟨_, rfl⟩
      have hP := Px.re ev1 hP
      have y1 : v1 y = some (100 + i, .inr (1, [.long 0, .int 0])) := by rw [ev1]; exact mset_self ..
      have j1 : Kp (fun _ => True) w' v1 := by rw [ev1]; exact Kp.new ny
      refine lv_dup hx hb dX0_init_79 rfl ?_
      refine c_v (r_runIN 0 M (m_pinit E y) hP q146 q20 (E.mnest M.2.1 q144) q145 rfl (by decide +kernel) rfl ⟨Nat.le_of_ble_eq_true rfl, Nat.le_of_ble_eq_true rfl⟩ hl.1 rfl (Nat.le_of_ble_eq_true rfl) dX0_init_80 ⟨by show 11 + i + 1 + 0 ≤ 43; omega, by show 1250 + 2 * i + 2 + 0 ≤ 1314; omega⟩) hP (fun v2 H locs hq hP => ?_)
      rw [hq] at hP
      have p1 := j1 _ _ _ hp' trivial
      refine r_aastP M hP p1 y1 (vp_in_nI (by omega) (by decide)) dX0_init_83 (fun H locs hP => ?_)
      rw [nI_clamp (by omega)] at hP
      obtain ⟨v3, ev3⟩ : ∃ z : mm, z = mset v1 pa (6, eP G 32 (va_up f i (some y))) := ⟨_, rfl⟩
      have hP := Px.re ev3 hP
      have j3 : Kp (fun t => t ≠ 6) w' v3 := (j1.mono (fun _ _ => trivial)).tr (by rw [ev3]; exact Kp.put p1 (fun z => z rfl))
      have y3 : v3 y = some (100 + i, oP 0 (nI 0)) := by rw [ev3, mset_ne _ _ (mm_ne y1 p1 (by omega))]; exact y1
      refine lv_iinc (v := (nI (i + 1))) (lv' := [(1, .int (nI (i + 1))), (0, .ref x)]) hx hb dX0_init_84 hl (k := 0) rfl (nI_1 i) (by decide) rfl (fun ls hl => ?_)
      refine lv_goto (tgt := 65) hx hb dX0_init_87 (by decide) ?_
      refine W.widen (by show 11 + i + 1 + 0 ≤ 11 + (i + 1); omega) (by show 1250 + 2 * i + 2 + 0 ≤ 1250 + 2 * (i + 1); omega) (ih (i + 1) v3 (va_up f i (some y)) H locs ls (by omega) (j3 _ _ _ hx' (by omega)) (j3 _ _ _ ht' (by omega)) (hR'.kp (by omega) j3 (fun t ht => by omega)) (by rw [ev3]; exact mset_self ..) (fun j hj => ?_) (hk.tr (j3.mono (fun t ht => by unfold MT at ht; omega))) hP hl)
      by_cases hji : j = i
      · subst hji
        exact ⟨y, va_up_self .., y3⟩
      · obtain ⟨z, z1, z2⟩ := hq' j (by omega)
        exact ⟨z, by rw [va_up_ne _ _ hji]; exact z1, j3 _ _ _ z2 (by omega)⟩
  have loop1 : ∀ (k i : Nat) (w' : mm) (H : Heap) (locs : List Loc) (ls : Array Slot), i + k = 4 → w' x = some (1, oD tl rl pa 0 0 0 0 0 0) → w' tl = some (2, oL 0 (G 5) 0) → RwL ad G w' rl i (fun _ => []) → w' pa = some (6, eP G 32 (fun _ => none)) → Kp MT w w' → Px s0 D w' H locs → lv_has ls 2 [(1, .int (nI i)), (0, .ref x)] → W p l ev (rmk 7 43 1314 200) s m #[Value.ref x] below meth c H locs (3 + 2 * i) (38 + 303 * i) (MQ below (Qv s0 D (fun w1 => DK ad G w1 x A0 ∧ Kp MT w w1)) #[Value.ref x] s 43 1314 (Fr s0)) (F0 m 37 ls []) := by
    intro k
    induction k with
    | zero =>
      intro i w' H locs ls hik hx' ht' hR' hp' hk hP hl
      refine lv_iload_n hx hb dX0_init_37 rfl (lv_at hl 0 rfl) ?_
      refine lv_iconst (v := 4) hx hb dX0_init_38 (by decide) ?_
      have hi : i = 4 := by omega
      rw [hi] at hR'
      refine lv_icmp_ge (tgt := 63) hx hb dX0_init_39 (by decide) (fun _ => ?_) (fun c9 => absurd (by rw [hi]; decide +kernel) c9)
      refine lv_iconst (v := 0) hx hb dX0_init_63 (by decide) ?_
      refine lv_istore_n (lv' := [(1, .int (nI 0)), (0, .ref x)]) hx hb dX0_init_64 rfl hl (by decide) rfl (fun ls hl => ?_)
      exact W.widen (by omega) (by omega) (loop2 32 0 w' _ H locs ls (by omega) hx' ht' hR' hp' (fun j hj => absurd hj (Nat.not_lt_zero j)) hk hP hl)
    | succ k ih =>
      intro i w' H locs ls hik hx' ht' hR' hp' hk hP hl
      refine lv_iload_n hx hb dX0_init_37 rfl (lv_at hl 0 rfl) ?_
      refine lv_iconst (v := 4) hx hb dX0_init_38 (by decide) ?_
      refine lv_icmp_ge (tgt := 63) hx hb dX0_init_39 (by decide) (fun c9 => absurd c9 (nI_ge (b := 4) (by omega) (by decide))) (fun _ => ?_)
      refine lv_aload_n hx hb dX0_init_42 rfl (lv_at hl 1 rfl) ?_
      refine r_get M cdX0 hP hx' 1 (by decide) q158 (fun _ h9 => h9) rfl dX0_init_43 ?_
      refine r_new M (fs := [.int 0, .null, .int 0]) (20 + i) cdJ2 hP q51 q52 q15 (fun j hj => by (first | (have : j = 0 := by omega) | skip); revert j; decide) (by show 3 + 2 * i + 1 ≤ 43; omega) (by show 38 + 303 * i + 3 ≤ 1314; omega) dX0_init_46 (fun y H ny hP => ?_)
      obtain ⟨v1, ev1⟩ : ∃ z : mm, z = mset w' y ((20 + i), .inr (4, [.int 0, .null, .int 0])) := ⟨_, rfl⟩
      have hP := Px.re ev1 hP
      have y1 : v1 y = some (20 + i, .inr (4, [.int 0, .null, .int 0])) := by rw [ev1]; exact mset_self ..
      have j1 : Kp (fun _ => True) w' v1 := by rw [ev1]; exact Kp.new ny
      refine lv_dup hx hb dX0_init_49 rfl ?_
      refine c_v (r_runI 0 M (m_linit E y (20 + i) y1) hP q55 q15 q53 q54 rfl (by decide +kernel) rfl ⟨Nat.le_of_ble_eq_true rfl, Nat.le_of_ble_eq_true rfl⟩ hl.1 rfl (Nat.le_of_ble_eq_true rfl) dX0_init_50 ⟨by show 3 + 2 * i + 1 + 0 ≤ 43; omega, by show 38 + 303 * i + 3 + 0 ≤ 1314; omega⟩) hP (fun v2 H locs hq hP => ?_)
      have j2 : Kp (fun t => t ≠ 20 + i) w' v2 := (j1.mono (fun _ _ => trivial)).tr (by rw [hq]; exact Kp.put y1 (fun z => z rfl))
      have y2 : v2 y = some (20 + i, oL 0 (G 5) 0) := by rw [hq]; exact mset_self ..
      have hy2 : Rw ad G v2 y (20 + i) (30 + i) [] := ⟨0, G 5, fun _ => none, y2, Or.inl ⟨rfl, rfl⟩, fun j v hj => by cases hj⟩
      obtain ⟨mod, e, f, hL, hB, hv⟩ := hR'
      have hL2 := j2 _ _ _ hL (by omega)
      have hB2 := hB.kp j2 (by omega)
      have hv2 : ∀ j, j < i → ∃ y : Nat, f j = some y ∧ Rw ad G v2 y (20 + j) (30 + j) [] := fun j hj => (hv j hj).elim fun z hz => ⟨z, hz.1, hz.2.kp j2 (by omega) (by omega) (by omega)⟩
      have hel : ∀ j, j < i → ∀ z, f j = some z → Rc s0 v2 z "java/util/ArrayList" := fun j hj z hz => by
        obtain ⟨z2, q1, q2⟩ := hv2 j hj
        cases hz.symm.trans q1
        obtain ⟨_, _, _, q3, -⟩ := q2
        exact Rc.of cdJ2 q3
      refine c_i (r_runV 1 M (m_add E hL2 hB2 hel q662 (by omega) (by omega) (Rc.of cdJ2 y2)) hP (Rc.of cdJ2 hL2) (lw_V q82 q83 q84 q15 q85) (by decide +kernel) rfl ⟨Nat.le_of_ble_eq_true rfl, Nat.le_of_ble_eq_true rfl⟩ hl.1 rfl (Nat.le_of_ble_eq_true rfl) dX0_init_53 ⟨by show 3 + 2 * i + 1 + 0 + 1 ≤ 43; omega, by show 38 + 303 * i + 3 + 0 + 300 ≤ 1314; omega⟩) hP (fun r v3 H locs hq3 hP => ?_)
      obtain ⟨er, hA⟩ := hq3
      have hRn := RwL.add hv2 hy2 hA (by omega)
      obtain ⟨e1, cap, f1, a1, a2, a3, a4, a5, a6, j3⟩ := hA
      have j4 : Kp (fun t => t ≠ 4 ∧ t ≠ 5 ∧ t ≠ 20 + i) w' v3 := (j2.mono (fun t ht => ht.2.2)).tr (j3.mono (fun t ht => ⟨ht.1, ht.2.1⟩))
      refine lv_pop hx hb dX0_init_56 rfl ?_
      refine lv_iinc (v := (nI (i + 1))) (lv' := [(1, .int (nI (i + 1))), (0, .ref x)]) hx hb dX0_init_57 hl (k := 0) rfl (nI_1 i) (by decide) rfl (fun ls hl => ?_)
      refine lv_goto (tgt := 37) hx hb dX0_init_60 (by decide) ?_
      exact W.widen (by show 3 + 2 * i + 1 + 0 + 1 ≤ 3 + 2 * (i + 1); omega) (by show 38 + 303 * i + 3 + 0 + 300 ≤ 38 + 303 * (i + 1); omega) (ih (i + 1) v3 H locs ls (by omega) (j4 _ _ _ hx' (by omega)) (j4 _ _ _ ht' (by omega)) hRn (j4 _ _ _ hp' (by omega)) (hk.tr (j4.mono (fun t ht => by unfold MT at ht; omega))) hP hl)
  exact loop1 4 0 w8 H locs ls (by omega) x8 t8 ⟨0, G 5, fun _ => none, r8, Or.inl ⟨rfl, rfl⟩, fun j hj => absurd hj (Nat.not_lt_zero j)⟩ p8 kA hP hl
end
section
/-! ===== the model's methods ===== -/
theorem fRef_q {n : Nat} {kd : Nat → Int32} {th : Nat → Bool} {ca : Nat → Nat} {rw : Nat → List Int64} {pp : (Nat → Int64) × (Nat → Nat)} {cs : Int32 × Int32 × Int32 × Int32 × Int32 × Int32} {q num : Int32} {a : Int64} (h : ixo 32 q = none) : fRef ((n, kd, th, ca), rw, pp, cs) q num a = -2 := by
  simp only [fRef, h]

set_option maxHeartbeats 4000000 in
set_option maxRecDepth 100000 in
/-- MainframeDeskModel.below(x, end) -/
theorem m_below {l : Launch} {s0 : State} {D : va_G} {G ad : Nat → Nat} {w : mm} (E : Bs l s0 D G ad) (q : Int32) (N : Nat) (hN : N < 2 ^ 31) : Mt l yX2_below cX2_below 2 (some FieldType.boolean) (rmk 0 0 0 0) [.int q, .int (nI N)] s0 D w (Qi s0 D (fun r w1 => r = bI (ixo N q) ∧ w1 = w)) := by
  refine Met.go E (by decide +kernel) (Nat.le_of_ble_eq_true rfl) (fun p ev s m below meth c ls M hr hlk hnm hl hP => ?_)
  have hx := M.1.1
  have hb := M.1.2.1
  have hl : lv_has ls 2 [(0, .int q), (1, .int (nI N))] := hl
  rcases pk_ix q (n := N) hN with h | h | ⟨j, hj, rfl⟩
  · refine lv_iload_n hx hb dX2_below_0 rfl (lv_at hl 0 rfl) ?_
    refine lv_if_lt (tgt := 13) hx hb dX2_below_1 (by decide) (fun _ => ?_) (fun c9 => absurd (h) c9)
    refine lv_iconst (v := 0) hx hb dX2_below_13 (by decide) ?_
    exact r_zret M hr hlk hP rfl ⟨by rw [ixo_neg h]; rfl, rfl⟩ dX2_below_14 (Nat.le_of_ble_eq_true rfl) (Nat.le_of_ble_eq_true rfl)
  · refine lv_iload_n hx hb dX2_below_0 rfl (lv_at hl 0 rfl) ?_
    refine lv_if_lt (tgt := 13) hx hb dX2_below_1 (by decide) (fun c9 => absurd c9 (ge_nn hN h)) (fun _ => ?_)
    refine lv_iload_n hx hb dX2_below_4 rfl (lv_at hl 0 rfl) ?_
    refine lv_iload_n hx hb dX2_below_5 rfl (lv_at hl 1 rfl) ?_
    refine lv_icmp_ge (tgt := 13) hx hb dX2_below_6 (by decide) (fun _ => ?_) (fun c9 => absurd (h) c9)
    refine lv_iconst (v := 0) hx hb dX2_below_13 (by decide) ?_
    exact r_zret M hr hlk hP rfl ⟨by rw [ixo_ge h]; rfl, rfl⟩ dX2_below_14 (Nat.le_of_ble_eq_true rfl) (Nat.le_of_ble_eq_true rfl)
  · refine lv_iload_n hx hb dX2_below_0 rfl (lv_at hl 0 rfl) ?_
    refine lv_if_lt (tgt := 13) hx hb dX2_below_1 (by decide) (fun c9 => absurd c9 (nI_pos (by omega))) (fun _ => ?_)
    refine lv_iload_n hx hb dX2_below_4 rfl (lv_at hl 0 rfl) ?_
    refine lv_iload_n hx hb dX2_below_5 rfl (lv_at hl 1 rfl) ?_
    refine lv_icmp_ge (tgt := 13) hx hb dX2_below_6 (by decide) (fun c9 => absurd c9 (nI_ge hj hN)) (fun _ => ?_)
    refine lv_iconst (v := 1) hx hb dX2_below_9 (by decide) ?_
    refine lv_goto (tgt := 14) hx hb dX2_below_10 (by decide) ?_
    exact r_zret M hr hlk hP rfl ⟨by rw [ixo_in hj hN]; rfl, rfl⟩ dX2_below_14 (Nat.le_of_ble_eq_true rfl) (Nat.le_of_ble_eq_true rfl)
set_option maxHeartbeats 4000000 in
set_option maxRecDepth 100000 in
/-- MainframeDeskModel.rowOf(call) -/
theorem m_mrow {l : Launch} {s0 : State} {D : va_G} {G ad : Nat → Nat} {w : mm} (E : Bs l s0 D G ad) {k : Nat} (hk : k < 32) : Mt l yX2_rowOf cX2_rowOf 1 (some FieldType.int) (rmk 0 0 0 0) [.int (nI k)] s0 D w (Qi s0 D (fun r w1 => r = (if k < 8 then -1 else nI (k % 4)) ∧ w1 = w)) := by
  refine Met.go E (by decide +kernel) (Nat.le_of_ble_eq_true rfl) (fun p ev s m below meth c ls M hr hlk hnm hl hP => ?_)
  have hx := M.1.1
  have hb := M.1.2.1
  have hl : lv_has ls 1 [(0, .int (nI k))] := hl
  by_cases h8 : k < 8
  · refine lv_iload_n hx hb dX2_rowOf_0 rfl (lv_at hl 0 rfl) ?_
    refine lv_bipush (v := 8) hx hb dX2_rowOf_1 (by decide) ?_
    refine lv_icmp_ge (tgt := 10) hx hb dX2_rowOf_3 (by decide) (fun c9 => absurd c9 (nI_ge (b := 8) h8 (by decide))) (fun _ => ?_)
    refine lv_iconst (v := (-1)) hx hb dX2_rowOf_6 (by decide) ?_
    refine lv_goto (tgt := 13) hx hb dX2_rowOf_7 (by decide) ?_
    exact r_iret M hr hlk hP ⟨by rw [if_pos h8], rfl⟩ dX2_rowOf_13 (Nat.le_of_ble_eq_true rfl) (Nat.le_of_ble_eq_true rfl)
  · refine lv_iload_n hx hb dX2_rowOf_0 rfl (lv_at hl 0 rfl) ?_
    refine lv_bipush (v := 8) hx hb dX2_rowOf_1 (by decide) ?_
    refine lv_icmp_ge (tgt := 10) hx hb dX2_rowOf_3 (by decide) (fun _ => ?_) (fun c9 => absurd (nI_le (a := 8) (by omega) (by omega)) c9)
    refine lv_iload_n hx hb dX2_rowOf_10 rfl (lv_at hl 0 rfl) ?_
    refine lv_iconst (v := 4) hx hb dX2_rowOf_11 (by decide) ?_
    refine lv_irem hx hb dX2_rowOf_12 (by decide) ?_
    rw [show nI k - nI k / 4 * 4 = nI (k % 4) from pk_rem (d := 4) (by omega) (by decide) (by decide)]
    exact r_iret M hr hlk hP ⟨by rw [if_neg h8], rfl⟩ dX2_rowOf_13 (Nat.le_of_ble_eq_true rfl) (Nat.le_of_ble_eq_true rfl)
set_option maxHeartbeats 4000000 in
set_option maxRecDepth 100000 in
/-- MainframeDeskModel.refusal(call, number, a) -/
theorem m_mref {l : Launch} {s0 : State} {D : va_G} {G ad : Nat → Nat} {w : mm} (E : Bs l s0 D G ad) {n : Nat} {kd : Nat → Int32} {th : Nat → Bool} {ca : Nat → Nat} {rw : Nat → List Int64} {an : Nat → Int64} {fl : Nat → Nat} {c0 c1 c2 c3 c4 c5 : Int32} {x a0 a1 a2 a3 a4 a5 a6 : Nat} {z wy : Int32} {f0 : Nat → Int64} {f1 : Nat → Int32} {f2 : Nat → Int64} {f3 f4 f5 : Nat → Int32} {f6 : Nat → Int64} (hy : w x = some (50, oM a0 a1 a2 a3 a4 a5 a6 n z c0 c1 c2 c3 c4 c5 wy)) (h1 : w a1 = some (52, eI G 4 f1)) (g1 : ∀ k, k < 4 → f1 k = nI (rw k).length) (h4 : w a4 = some (55, eI G 200 f4)) (g4 : ∀ k, k < n → f4 k = kd k) (h5 : w a5 = some (56, eZ G 200 f5)) (g5 : ∀ k, k < n → f5 k = if th k = true then 1 else 0) (hn : n ≤ 200) (hlen : ∀ k, (rw k).length ≤ 50) (q num : Int32) (b : Int64) : Mt l yX2_refusal cX2_refusal 5 (some FieldType.int) (rmk 1 0 0 30) [.ref x, .int q, .int num, .long b] s0 D w (Qi s0 D (fun r w1 => r = fRef ((n, kd, th, ca), rw, (an, fl), (c0, c1, c2, c3, c4, c5)) q num b ∧ w1 = w)) := by
  refine Met.go E (by decide +kernel) (Nat.le_of_ble_eq_true rfl) (fun p ev s m below meth c ls M hr hlk hnm hl hP => ?_)
  have hx := M.1.1
  have hb := M.1.2.1
  have hl : lv_has ls 5 [(0, .ref x), (1, .int q), (2, .int num), (3, .long b)] := hl
  refine lv_iload_n hx hb dX2_refusal_0 rfl (lv_at hl 1 rfl) ?_
  refine lv_bipush (v := 32) hx hb dX2_refusal_1 (by decide) ?_
  refine c_i (r_runS 2 M (m_below E q 32 (by decide)) hP (lw_S q610 q611 q21 q612) (by decide +kernel) rfl ⟨Nat.le_of_ble_eq_true rfl, Nat.le_of_ble_eq_true rfl⟩ hl.1 rfl (Nat.le_of_ble_eq_true rfl) dX2_refusal_3 ⟨Nat.le_of_ble_eq_true rfl, Nat.le_of_ble_eq_true rfl⟩) hP (fun r w9 H locs hq hP => ?_)
  obtain ⟨er, ew⟩ := hq
  rw [ew] at hP
  rw [er]
  rcases pk_ix q (n := 32) (by decide) with h | h | ⟨k, hk, rfl⟩
  · rw [ixo_neg h]
    refine lv_if_eq (tgt := 37) hx hb dX2_refusal_6 (by decide) (fun _ => ?_) (fun c9 => absurd (rfl) c9)
    refine lv_bipush (v := (-2)) hx hb dX2_refusal_37 (by decide) ?_
    exact r_iret M hr hlk hP ⟨(fRef_q (ixo_neg h)).symm, rfl⟩ dX2_refusal_39 (Nat.le_of_ble_eq_true rfl) (Nat.le_of_ble_eq_true rfl)
  · rw [ixo_ge h]
    refine lv_if_eq (tgt := 37) hx hb dX2_refusal_6 (by decide) (fun _ => ?_) (fun c9 => absurd (rfl) c9)
    refine lv_bipush (v := (-2)) hx hb dX2_refusal_37 (by decide) ?_
    exact r_iret M hr hlk hP ⟨(fRef_q (ixo_ge h)).symm, rfl⟩ dX2_refusal_39 (Nat.le_of_ble_eq_true rfl) (Nat.le_of_ble_eq_true rfl)
  · rw [ixo_in hk (show 32 < 2 ^ 31 by decide)]
    refine lv_if_eq (tgt := 37) hx hb dX2_refusal_6 (by decide) (fun c9 => absurd c9 (h10)) (fun _ => ?_)
    refine lv_iload_n hx hb dX2_refusal_9 rfl (lv_at hl 2 rfl) ?_
    refine lv_iconst (v := 1) hx hb dX2_refusal_10 (by decide) ?_
    rcases ixt_cases n (by omega) num with ⟨b0, hi⟩ | ⟨b0, b1, hi⟩ | ⟨i, hin, rfl, hi⟩
    · refine lv_icmp_lt (tgt := 37) hx hb dX2_refusal_11 (by decide) (fun _ => ?_) (fun c9 => absurd (b0) c9)
      refine lv_bipush (v := (-2)) hx hb dX2_refusal_37 (by decide) ?_
      exact r_iret M hr hlk hP ⟨(fRef_none hi).symm, rfl⟩ dX2_refusal_39 (Nat.le_of_ble_eq_true rfl) (Nat.le_of_ble_eq_true rfl)
    · refine lv_icmp_lt (tgt := 37) hx hb dX2_refusal_11 (by decide) (fun c9 => absurd c9 (b0)) (fun _ => ?_)
      refine lv_iload_n hx hb dX2_refusal_14 rfl (lv_at hl 2 rfl) ?_
      refine lv_aload_n hx hb dX2_refusal_15 rfl (lv_at hl 0 rfl) ?_
      refine r_get M cdX2 hP hy 7 (by decide) q562 (fun _ h9 => h9) rfl dX2_refusal_16 ?_
      refine lv_icmp_gt (tgt := 37) hx hb dX2_refusal_19 (by decide) (fun _ => ?_) (fun c9 => absurd (b1) c9)
      refine lv_bipush (v := (-2)) hx hb dX2_refusal_37 (by decide) ?_
      exact r_iret M hr hlk hP ⟨(fRef_none hi).symm, rfl⟩ dX2_refusal_39 (Nat.le_of_ble_eq_true rfl) (Nat.le_of_ble_eq_true rfl)
    · refine lv_icmp_lt (tgt := 37) hx hb dX2_refusal_11 (by decide) (fun c9 => absurd c9 (nI_nlt (b := 1) (by omega) (by omega))) (fun _ => ?_)
      refine lv_iload_n hx hb dX2_refusal_14 rfl (lv_at hl 2 rfl) ?_
      refine lv_aload_n hx hb dX2_refusal_15 rfl (lv_at hl 0 rfl) ?_
      refine r_get M cdX2 hP hy 7 (by decide) q562 (fun _ h9 => h9) rfl dX2_refusal_16 ?_
      refine lv_icmp_gt (tgt := 37) hx hb dX2_refusal_19 (by decide) (fun c9 => absurd c9 (nI_nlt (by omega) (by omega))) (fun _ => ?_)
      refine lv_aload_n hx hb dX2_refusal_22 rfl (lv_at hl 0 rfl) ?_
      refine r_get M cdX2 hP hy 4 (by decide) q559 (fun _ h9 => h9) rfl dX2_refusal_23 ?_
      refine lv_iload_n hx hb dX2_refusal_26 rfl (lv_at hl 2 rfl) ?_
      refine lv_iconst (v := 1) hx hb dX2_refusal_27 (by decide) ?_
      refine lv_isub hx hb dX2_refusal_28 ?_
      rw [nI_pred]
      refine r_iald M hP h4 (vp_in_nI (by omega) (by decide)) dX2_refusal_29 ?_
      rw [nI_clamp (by omega), g4 i hin]
      refine lv_iload_n hx hb dX2_refusal_30 rfl (lv_at hl 1 rfl) ?_
      refine lv_bipush (v := 8) hx hb dX2_refusal_31 (by decide) ?_
      refine lv_irem hx hb dX2_refusal_33 (by decide) ?_
      rw [show nI k - nI k / 8 * 8 = nI (k % 8) from pk_rem (d := 8) (by omega) (by decide) (by decide)]
      by_cases hkd : kd i = nI (k % 8)
      · refine lv_icmp_eq (tgt := 40) hx hb dX2_refusal_34 (by decide) (fun _ => ?_) (fun c9 => absurd (hkd) c9)
        refine lv_lload_n hx hb dX2_refusal_40 rfl (lv_at hl 3 rfl) ?_
        refine lv_lconst (v := 0) hx hb dX2_refusal_41 (by decide) ?_
        refine W.lcmp hx hb dX2_refusal_42 ?_
        by_cases h0 : b < 0
        · refine lv_if_lt (tgt := 54) hx hb dX2_refusal_43 (by decide) (fun _ => ?_) (fun c9 => absurd ((lg_cmp_lt b 0).mpr h0) c9)
          refine lv_bipush (v := (-4)) hx hb dX2_refusal_54 (by decide) ?_
          have hA : fRef ((n, kd, th, ca), rw, (an, fl), (c0, c1, c2, c3, c4, c5)) (nI k) (nI (i + 1)) b = -4 := by
            rw [fRef_some hi]
            simp only [rfS, ixo_in hk (show 32 < 2 ^ 31 by decide)]
            rw [if_pos hkd, if_pos (Or.inl h0)]
          exact r_iret M hr hlk hP ⟨hA.symm, rfl⟩ dX2_refusal_56 (Nat.le_of_ble_eq_true rfl) (Nat.le_of_ble_eq_true rfl)
        · refine lv_if_lt (tgt := 54) hx hb dX2_refusal_43 (by decide) (fun c9 => absurd c9 (fun z => h0 ((lg_cmp_lt b 0).mp z))) (fun _ => ?_)
          refine lv_lload_n hx hb dX2_refusal_46 rfl (lv_at hl 3 rfl) ?_
          refine lv_ldc2 hx hb M.1.2.2.2.1 (M.1.2.2.2.2 _ q637) dX2_refusal_47 ?_
          refine W.lcmp hx hb dX2_refusal_50 ?_
          by_cases hb1 : 1000000 < b
          · refine lv_if_le (tgt := 57) hx hb dX2_refusal_51 (by decide) (fun c9 => absurd c9 (fun z => absurd ((lg_cmp_le b 1000000).mp z) (Int64.not_le.mpr hb1))) (fun _ => ?_)
            refine lv_bipush (v := (-4)) hx hb dX2_refusal_54 (by decide) ?_
            have hA : fRef ((n, kd, th, ca), rw, (an, fl), (c0, c1, c2, c3, c4, c5)) (nI k) (nI (i + 1)) b = -4 := by
              rw [fRef_some hi]
              simp only [rfS, ixo_in hk (show 32 < 2 ^ 31 by decide)]
              rw [if_pos hkd, if_pos (Or.inr hb1)]
            exact r_iret M hr hlk hP ⟨hA.symm, rfl⟩ dX2_refusal_56 (Nat.le_of_ble_eq_true rfl) (Nat.le_of_ble_eq_true rfl)
          · refine lv_if_le (tgt := 57) hx hb dX2_refusal_51 (by decide) (fun _ => ?_) (fun c9 => absurd ((lg_cmp_le b 1000000).mpr (Int64.not_lt.mp hb1)) c9)
            have h01 : ¬ (b < 0 ∨ 1000000 < b) := fun z => z.elim h0 hb1
            refine lv_aload_n hx hb dX2_refusal_57 rfl (lv_at hl 0 rfl) ?_
            refine r_get M cdX2 hP hy 5 (by decide) q560 (fun _ h9 => h9) rfl dX2_refusal_58 ?_
            refine lv_iload_n hx hb dX2_refusal_61 rfl (lv_at hl 2 rfl) ?_
            refine lv_iconst (v := 1) hx hb dX2_refusal_62 (by decide) ?_
            refine lv_isub hx hb dX2_refusal_63 ?_
            rw [nI_pred]
            refine r_zald M hP h5 (vp_in_nI (by omega) (by decide)) dX2_refusal_64 ?_
            rw [nI_clamp (by omega), g5 i hin]
            by_cases hti : th i = true
            · rw [if_pos hti]
              refine lv_if_eq (tgt := 86) hx hb dX2_refusal_65 (by decide) (fun c9 => absurd c9 (h10)) (fun _ => ?_)
              refine lv_iload_n hx hb dX2_refusal_68 rfl (lv_at hl 1 rfl) ?_
              refine lv_bipush (v := 24) hx hb dX2_refusal_69 (by decide) ?_
              by_cases h24 : k < 24
              · refine lv_icmp_lt (tgt := 91) hx hb dX2_refusal_71 (by decide) (fun _ => ?_) (fun c9 => absurd (nI_lt (b := 24) h24 (by decide)) c9)
                refine lv_iconst (v := 0) hx hb dX2_refusal_91 (by decide) ?_
                have hA : fRef ((n, kd, th, ca), rw, (an, fl), (c0, c1, c2, c3, c4, c5)) (nI k) (nI (i + 1)) b = 0 := by
                  rw [fRef_some hi]
                  simp only [rfS, ixo_in hk (show 32 < 2 ^ 31 by decide)]
                  rw [if_pos hkd, if_neg h01, if_neg (fun z => z.elim (fun z => by rw [hti] at z; cases z) (fun z => by omega))]
                exact r_iret M hr hlk hP ⟨hA.symm, rfl⟩ dX2_refusal_92 (Nat.le_of_ble_eq_true rfl) (Nat.le_of_ble_eq_true rfl)
              · refine lv_icmp_lt (tgt := 91) hx hb dX2_refusal_71 (by decide) (fun c9 => absurd c9 (nI_nlt (b := 24) (by omega) (by omega))) (fun _ => ?_)
                have hk4 : k % 4 < 4 := Nat.mod_lt _ (by decide)
                refine lv_aload_n hx hb dX2_refusal_74 rfl (lv_at hl 0 rfl) ?_
                refine r_get M cdX2 hP hy 1 (by decide) q556 (fun _ h9 => h9) rfl dX2_refusal_75 ?_
                refine lv_iload_n hx hb dX2_refusal_78 rfl (lv_at hl 1 rfl) ?_
                refine c_i (r_runS 1 M (m_mrow E hk) hP (lw_S q638 q639 q21 q640) (by decide +kernel) rfl ⟨Nat.le_of_ble_eq_true rfl, Nat.le_of_ble_eq_true rfl⟩ hl.1 rfl (Nat.le_of_ble_eq_true rfl) dX2_refusal_79 ⟨Nat.le_of_ble_eq_true rfl, Nat.le_of_ble_eq_true rfl⟩) hP (fun r w8 H locs hq hP => ?_)
                obtain ⟨er, ew⟩ := hq
                rw [ew] at hP
                rw [er]
                rw [if_neg (by omega)]
                refine r_iald M hP h1 (vp_in_nI hk4 (by decide)) dX2_refusal_82 ?_
                rw [nI_clamp (by omega), g1 (k % 4) hk4]
                have hl5 := hlen (k % 4)
                by_cases hz : (rw (k % 4)).length = 0
                · refine lv_if_ne (tgt := 91) hx hb dX2_refusal_83 (by decide) (fun c9 => absurd (by rw [hz]; rfl) c9) (fun _ => ?_)
                  refine lv_bipush (v := (-5)) hx hb dX2_refusal_86 (by decide) ?_
                  refine lv_goto (tgt := 92) hx hb dX2_refusal_88 (by decide) ?_
                  have hA : fRef ((n, kd, th, ca), rw, (an, fl), (c0, c1, c2, c3, c4, c5)) (nI k) (nI (i + 1)) b = -5 := by
                    rw [fRef_some hi]
                    simp only [rfS, ixo_in hk (show 32 < 2 ^ 31 by decide)]
                    rw [if_pos hkd, if_neg h01, if_pos (Or.inr ⟨by omega, List.length_eq_zero_iff.mp hz⟩)]
                  exact r_iret M hr hlk hP ⟨hA.symm, rfl⟩ dX2_refusal_92 (Nat.le_of_ble_eq_true rfl) (Nat.le_of_ble_eq_true rfl)
                · refine lv_if_ne (tgt := 91) hx hb dX2_refusal_83 (by decide) (fun _ => ?_) (fun c9 => absurd c9 (nI_ne0 (by omega) (by omega)))
                  refine lv_iconst (v := 0) hx hb dX2_refusal_91 (by decide) ?_
                  have hA : fRef ((n, kd, th, ca), rw, (an, fl), (c0, c1, c2, c3, c4, c5)) (nI k) (nI (i + 1)) b = 0 := by
                    rw [fRef_some hi]
                    simp only [rfS, ixo_in hk (show 32 < 2 ^ 31 by decide)]
                    rw [if_pos hkd, if_neg h01, if_neg (fun z => z.elim (fun z => by rw [hti] at z; cases z) (fun z => hz (List.length_eq_zero_iff.mpr z.2)))]
                  exact r_iret M hr hlk hP ⟨hA.symm, rfl⟩ dX2_refusal_92 (Nat.le_of_ble_eq_true rfl) (Nat.le_of_ble_eq_true rfl)
            · rw [if_neg hti]
              refine lv_if_eq (tgt := 86) hx hb dX2_refusal_65 (by decide) (fun _ => ?_) (fun c9 => absurd (rfl) c9)
              refine lv_bipush (v := (-5)) hx hb dX2_refusal_86 (by decide) ?_
              refine lv_goto (tgt := 92) hx hb dX2_refusal_88 (by decide) ?_
              have hA : fRef ((n, kd, th, ca), rw, (an, fl), (c0, c1, c2, c3, c4, c5)) (nI k) (nI (i + 1)) b = -5 := by
                rw [fRef_some hi]
                simp only [rfS, ixo_in hk (show 32 < 2 ^ 31 by decide)]
                rw [if_pos hkd, if_neg h01, if_pos (Or.inl (by cases hh : th i with | true => exact absurd hh hti | false => rfl))]
              exact r_iret M hr hlk hP ⟨hA.symm, rfl⟩ dX2_refusal_92 (Nat.le_of_ble_eq_true rfl) (Nat.le_of_ble_eq_true rfl)
      · refine lv_icmp_eq (tgt := 40) hx hb dX2_refusal_34 (by decide) (fun c9 => absurd c9 (hkd)) (fun _ => ?_)
        refine lv_bipush (v := (-2)) hx hb dX2_refusal_37 (by decide) ?_
        have hA : fRef ((n, kd, th, ca), rw, (an, fl), (c0, c1, c2, c3, c4, c5)) (nI k) (nI (i + 1)) b = -2 := by
          rw [fRef_some hi]
          simp only [rfS, ixo_in hk (show 32 < 2 ^ 31 by decide)]
          rw [if_neg hkd]
        exact r_iret M hr hlk hP ⟨hA.symm, rfl⟩ dX2_refusal_39 (Nat.le_of_ble_eq_true rfl) (Nat.le_of_ble_eq_true rfl)
set_option maxHeartbeats 4000000 in
set_option maxRecDepth 100000 in
/-- MainframeDeskModel.told(what) -/
theorem m_mtold {l : Launch} {s0 : State} {D : va_G} {G ad : Nat → Nat} {w : mm} (E : Bs l s0 D G ad) {x : Nat} {n : Nat} {kd : Nat → Int32} {th : Nat → Bool} {ca : Nat → Nat} {rw : Nat → List Int64} {an : Nat → Int64} {fl : Nat → Nat} {c0 c1 c2 c3 c4 c5 : Int32} (h : MD G w x ((n, kd, th, ca), rw, (an, fl), (c0, c1, c2, c3, c4, c5))) (hn : n ≤ 200) (q : Int32) : Mt l yX2_told cX2_told 2 (some FieldType.int) (rmk 0 0 0 0) [.ref x, .int q] s0 D w (Qi s0 D (fun r w1 => r = fTold ((n, kd, th, ca), rw, (an, fl), (c0, c1, c2, c3, c4, c5)) q ∧ MD G w1 x ((n, kd, th, ca), rw, (an, fl), (c0, c1, c2, c3, c4, c5)) ∧ Kp NT w w1)) := by
  refine Met.go E (by decide +kernel) (Nat.le_of_ble_eq_true rfl) (fun p ev s m below meth c ls M hr hlk hnm hl hP => ?_)
  have hx := M.1.1
  have hb := M.1.2.1
  have hl : lv_has ls 2 [(0, .ref x), (1, .int q)] := hl
  obtain ⟨wy, a0, a1, a2, a3, a4, a5, a6, z, f0, f1, f2, f3, f4, f5, f6, hy, ⟨h0, g0⟩, ⟨h1, g1⟩, ⟨h2, g2⟩, ⟨h3, g3⟩, ⟨h4, g4⟩, ⟨h5, g5⟩, ⟨h6, g6⟩⟩ := h
  refine lv_aload_n hx hb dX2_told_0 rfl (lv_at hl 0 rfl) ?_
  refine lv_iconst (v := 0) hx hb dX2_told_1 (by decide) ?_
  refine r_put (v := .int 0) M cdX2 hP hy 8 (by decide) q563 (fun _ h9 => h9) rfl rfl rfl (Nat.le_of_ble_eq_true rfl) dX2_told_2 (fun H locs hP => ?_)
  obtain ⟨w1, ew1⟩ : ∃ z : mm, z = mset w x (50, oM a0 a1 a2 a3 a4 a5 a6 n 0 c0 c1 c2 c3 c4 c5 wy) := ⟨_, rfl⟩
  have hP := Px.re ew1 hP
  have kk0 : Kp (fun t => t ≠ 50) w w1 := by rw [ew1]; exact Kp.put hy (fun z => z rfl)
  have h0 := kk0 _ _ _ h0 (by omega)
  have h1 := kk0 _ _ _ h1 (by omega)
  have h2 := kk0 _ _ _ h2 (by omega)
  have h3 := kk0 _ _ _ h3 (by omega)
  have h4 := kk0 _ _ _ h4 (by omega)
  have h5 := kk0 _ _ _ h5 (by omega)
  have h6 := kk0 _ _ _ h6 (by omega)
  have hy : w1 x = some (50, oM a0 a1 a2 a3 a4 a5 a6 n 0 c0 c1 c2 c3 c4 c5 wy) := by rw [ew1]; exact mset_self ..
  have ka : Kp NT w w1 := kk0.mono (fun t ht => by unfold NT at ht; omega)
  rcases pk_ix q (n := 6) (by decide) with h | h | ⟨j, hj, rfl⟩
  · refine lv_iload_n hx hb dX2_told_5 rfl (lv_at hl 1 rfl) ?_
    refine lv_tableOut (tgt := 74) hx hb dX2_told_6 (Or.inl (by rw [Int32.lt_iff_toInt_lt, Int32.toInt_zero] at h; exact h)) (by decide) ?_
    refine lv_iconst (v := (-1)) hx hb dX2_told_74 (by decide) ?_
    exact r_iret M hr hlk hP ⟨by simp only [fTold, ixo_neg h], ⟨wy, a0, a1, a2, a3, a4, a5, a6, 0, f0, f1, f2, f3, f4, f5, f6, hy, ⟨h0, g0⟩, ⟨h1, g1⟩, ⟨h2, g2⟩, ⟨h3, g3⟩, ⟨h4, g4⟩, ⟨h5, g5⟩, ⟨h6, g6⟩⟩, ka⟩ dX2_told_75 (Nat.le_of_ble_eq_true rfl) (Nat.le_of_ble_eq_true rfl)
  · refine lv_iload_n hx hb dX2_told_5 rfl (lv_at hl 1 rfl) ?_
    refine lv_tableOut (tgt := 74) hx hb dX2_told_6 (Or.inr (by rw [Int32.le_iff_toInt_le, nI_toInt (by decide)] at h; omega)) (by decide) ?_
    refine lv_iconst (v := (-1)) hx hb dX2_told_74 (by decide) ?_
    exact r_iret M hr hlk hP ⟨by simp only [fTold, ixo_ge h], ⟨wy, a0, a1, a2, a3, a4, a5, a6, 0, f0, f1, f2, f3, f4, f5, f6, hy, ⟨h0, g0⟩, ⟨h1, g1⟩, ⟨h2, g2⟩, ⟨h3, g3⟩, ⟨h4, g4⟩, ⟨h5, g5⟩, ⟨h6, g6⟩⟩, ka⟩ dX2_told_75 (Nat.le_of_ble_eq_true rfl) (Nat.le_of_ble_eq_true rfl)
  · have hj : j = 0 ∨ j = 1 ∨ j = 2 ∨ j = 3 ∨ j = 4 ∨ j = 5 := by omega
    rcases hj with rfl | rfl | rfl | rfl | rfl | rfl
    · refine lv_iload_n hx hb dX2_told_5 rfl (lv_at hl 1 rfl) ?_
      refine lv_tableIn (tgt := 44) hx hb dX2_told_6 (by decide +kernel) (by decide +kernel) rfl (by decide) ?_
      refine lv_aload_n hx hb dX2_told_44 rfl (lv_at hl 0 rfl) ?_
      refine r_get M cdX2 hP hy 9 (by decide) q564 (fun _ h9 => h9) rfl dX2_told_45 ?_
      exact r_iret M hr hlk hP ⟨rfl, ⟨wy, a0, a1, a2, a3, a4, a5, a6, 0, f0, f1, f2, f3, f4, f5, f6, hy, ⟨h0, g0⟩, ⟨h1, g1⟩, ⟨h2, g2⟩, ⟨h3, g3⟩, ⟨h4, g4⟩, ⟨h5, g5⟩, ⟨h6, g6⟩⟩, ka⟩ dX2_told_48 (Nat.le_of_ble_eq_true rfl) (Nat.le_of_ble_eq_true rfl)
    · refine lv_iload_n hx hb dX2_told_5 rfl (lv_at hl 1 rfl) ?_
      refine lv_tableIn (tgt := 49) hx hb dX2_told_6 (by decide +kernel) (by decide +kernel) rfl (by decide) ?_
      refine lv_aload_n hx hb dX2_told_49 rfl (lv_at hl 0 rfl) ?_
      refine r_get M cdX2 hP hy 10 (by decide) q565 (fun _ h9 => h9) rfl dX2_told_50 ?_
      exact r_iret M hr hlk hP ⟨rfl, ⟨wy, a0, a1, a2, a3, a4, a5, a6, 0, f0, f1, f2, f3, f4, f5, f6, hy, ⟨h0, g0⟩, ⟨h1, g1⟩, ⟨h2, g2⟩, ⟨h3, g3⟩, ⟨h4, g4⟩, ⟨h5, g5⟩, ⟨h6, g6⟩⟩, ka⟩ dX2_told_53 (Nat.le_of_ble_eq_true rfl) (Nat.le_of_ble_eq_true rfl)
    · refine lv_iload_n hx hb dX2_told_5 rfl (lv_at hl 1 rfl) ?_
      refine lv_tableIn (tgt := 54) hx hb dX2_told_6 (by decide +kernel) (by decide +kernel) rfl (by decide) ?_
      refine lv_aload_n hx hb dX2_told_54 rfl (lv_at hl 0 rfl) ?_
      refine r_get M cdX2 hP hy 11 (by decide) q566 (fun _ h9 => h9) rfl dX2_told_55 ?_
      exact r_iret M hr hlk hP ⟨rfl, ⟨wy, a0, a1, a2, a3, a4, a5, a6, 0, f0, f1, f2, f3, f4, f5, f6, hy, ⟨h0, g0⟩, ⟨h1, g1⟩, ⟨h2, g2⟩, ⟨h3, g3⟩, ⟨h4, g4⟩, ⟨h5, g5⟩, ⟨h6, g6⟩⟩, ka⟩ dX2_told_58 (Nat.le_of_ble_eq_true rfl) (Nat.le_of_ble_eq_true rfl)
    · refine lv_iload_n hx hb dX2_told_5 rfl (lv_at hl 1 rfl) ?_
      refine lv_tableIn (tgt := 59) hx hb dX2_told_6 (by decide +kernel) (by decide +kernel) rfl (by decide) ?_
      refine lv_aload_n hx hb dX2_told_59 rfl (lv_at hl 0 rfl) ?_
      refine r_get M cdX2 hP hy 12 (by decide) q567 (fun _ h9 => h9) rfl dX2_told_60 ?_
      exact r_iret M hr hlk hP ⟨rfl, ⟨wy, a0, a1, a2, a3, a4, a5, a6, 0, f0, f1, f2, f3, f4, f5, f6, hy, ⟨h0, g0⟩, ⟨h1, g1⟩, ⟨h2, g2⟩, ⟨h3, g3⟩, ⟨h4, g4⟩, ⟨h5, g5⟩, ⟨h6, g6⟩⟩, ka⟩ dX2_told_63 (Nat.le_of_ble_eq_true rfl) (Nat.le_of_ble_eq_true rfl)
    · refine lv_iload_n hx hb dX2_told_5 rfl (lv_at hl 1 rfl) ?_
      refine lv_tableIn (tgt := 64) hx hb dX2_told_6 (by decide +kernel) (by decide +kernel) rfl (by decide) ?_
      refine lv_aload_n hx hb dX2_told_64 rfl (lv_at hl 0 rfl) ?_
      refine r_get M cdX2 hP hy 13 (by decide) q568 (fun _ h9 => h9) rfl dX2_told_65 ?_
      exact r_iret M hr hlk hP ⟨rfl, ⟨wy, a0, a1, a2, a3, a4, a5, a6, 0, f0, f1, f2, f3, f4, f5, f6, hy, ⟨h0, g0⟩, ⟨h1, g1⟩, ⟨h2, g2⟩, ⟨h3, g3⟩, ⟨h4, g4⟩, ⟨h5, g5⟩, ⟨h6, g6⟩⟩, ka⟩ dX2_told_68 (Nat.le_of_ble_eq_true rfl) (Nat.le_of_ble_eq_true rfl)
    · refine lv_iload_n hx hb dX2_told_5 rfl (lv_at hl 1 rfl) ?_
      refine lv_tableIn (tgt := 69) hx hb dX2_told_6 (by decide +kernel) (by decide +kernel) rfl (by decide) ?_
      refine lv_aload_n hx hb dX2_told_69 rfl (lv_at hl 0 rfl) ?_
      refine r_get M cdX2 hP hy 14 (by decide) q569 (fun _ h9 => h9) rfl dX2_told_70 ?_
      exact r_iret M hr hlk hP ⟨rfl, ⟨wy, a0, a1, a2, a3, a4, a5, a6, 0, f0, f1, f2, f3, f4, f5, f6, hy, ⟨h0, g0⟩, ⟨h1, g1⟩, ⟨h2, g2⟩, ⟨h3, g3⟩, ⟨h4, g4⟩, ⟨h5, g5⟩, ⟨h6, g6⟩⟩, ka⟩ dX2_told_73 (Nat.le_of_ble_eq_true rfl) (Nat.le_of_ble_eq_true rfl)
set_option maxHeartbeats 4000000 in
set_option maxRecDepth 100000 in
/-- MainframeDeskModel.collect(what, v) -/
theorem m_mcollect {l : Launch} {s0 : State} {D : va_G} {G ad : Nat → Nat} {w : mm} (E : Bs l s0 D G ad) {x : Nat} {n : Nat} {kd : Nat → Int32} {th : Nat → Bool} {ca : Nat → Nat} {rw : Nat → List Int64} {an : Nat → Int64} {fl : Nat → Nat} {c0 c1 c2 c3 c4 c5 : Int32} (h : MD G w x ((n, kd, th, ca), rw, (an, fl), (c0, c1, c2, c3, c4, c5))) (hn : n ≤ 200) (hlen : ∀ k, (rw k).length ≤ 50) (q : Int32) (b : Int64) : Mt l yX2_collect cX2_collect 4 (some FieldType.int) (rmk 1 0 0 30) [.ref x, .int q, .long b] s0 D w (Qi s0 D (fun r w1 => r = (fCollect ((n, kd, th, ca), rw, (an, fl), (c0, c1, c2, c3, c4, c5)) q b).1 ∧ MD G w1 x (fCollect ((n, kd, th, ca), rw, (an, fl), (c0, c1, c2, c3, c4, c5)) q b).2 ∧ Kp NT w w1)) := by
  refine Met.go E (by decide +kernel) (Nat.le_of_ble_eq_true rfl) (fun p ev s m below meth c ls M hr hlk hnm hl hP => ?_)
  have hx := M.1.1
  have hb := M.1.2.1
  have hl : lv_has ls 4 [(0, .ref x), (1, .int q), (2, .long b)] := hl
  obtain ⟨wy, a0, a1, a2, a3, a4, a5, a6, z, f0, f1, f2, f3, f4, f5, f6, hy, ⟨h0, g0⟩, ⟨h1, g1⟩, ⟨h2, g2⟩, ⟨h3, g3⟩, ⟨h4, g4⟩, ⟨h5, g5⟩, ⟨h6, g6⟩⟩ := h
  refine lv_aload_n hx hb dX2_collect_0 rfl (lv_at hl 0 rfl) ?_
  refine lv_iconst (v := 0) hx hb dX2_collect_1 (by decide) ?_
  refine r_put (v := .int 0) M cdX2 hP hy 8 (by decide) q563 (fun _ h9 => h9) rfl rfl rfl (Nat.le_of_ble_eq_true rfl) dX2_collect_2 (fun H locs hP => ?_)
  obtain ⟨w1, ew1⟩ : ∃ z : mm, z = mset w x (50, oM a0 a1 a2 a3 a4 a5 a6 n 0 c0 c1 c2 c3 c4 c5 wy) := ⟨_, rfl⟩
  have hP := Px.re ew1 hP
  have kk0 : Kp (fun t => t ≠ 50) w w1 := by rw [ew1]; exact Kp.put hy (fun z => z rfl)
  have h0 := kk0 _ _ _ h0 (by omega)
  have h1 := kk0 _ _ _ h1 (by omega)
  have h2 := kk0 _ _ _ h2 (by omega)
  have h3 := kk0 _ _ _ h3 (by omega)
  have h4 := kk0 _ _ _ h4 (by omega)
  have h5 := kk0 _ _ _ h5 (by omega)
  have h6 := kk0 _ _ _ h6 (by omega)
  have hy : w1 x = some (50, oM a0 a1 a2 a3 a4 a5 a6 n 0 c0 c1 c2 c3 c4 c5 wy) := by rw [ew1]; exact mset_self ..
  have ka : Kp NT w w1 := kk0.mono (fun t ht => by unfold NT at ht; omega)
  refine lv_iload_n hx hb dX2_collect_5 rfl (lv_at hl 1 rfl) ?_
  refine lv_iconst (v := 4) hx hb dX2_collect_6 (by decide) ?_
  refine c_i (r_runS 2 M (m_below E q 4 (by decide)) hP (lw_S q610 q611 q21 q612) (by decide +kernel) rfl ⟨Nat.le_of_ble_eq_true rfl, Nat.le_of_ble_eq_true rfl⟩ hl.1 rfl (Nat.le_of_ble_eq_true rfl) dX2_collect_7 ⟨Nat.le_of_ble_eq_true rfl, Nat.le_of_ble_eq_true rfl⟩) hP (fun r w9 H locs hq hP => ?_)
  obtain ⟨er, ew⟩ := hq
  rw [ew] at hP
  rw [er]
  rcases pk_ix q (n := 4) (by decide) with h | h | ⟨k, hk, rfl⟩
  · rw [ixo_neg h]
    refine lv_if_eq (tgt := 24) hx hb dX2_collect_10 (by decide) (fun _ => ?_) (fun c9 => absurd (rfl) c9)
    refine lv_iconst (v := (-1)) hx hb dX2_collect_24 (by decide) ?_
    have hA : fCollect ((n, kd, th, ca), rw, (an, fl), (c0, c1, c2, c3, c4, c5)) q b = (-1, ((n, kd, th, ca), rw, (an, fl), (c0, c1, c2, c3, c4, c5))) := by simp only [fCollect, ixo_neg h]
    exact r_iret M hr hlk hP (by rw [hA]; exact ⟨rfl, ⟨wy, a0, a1, a2, a3, a4, a5, a6, 0, f0, f1, f2, f3, f4, f5, f6, hy, ⟨h0, g0⟩, ⟨h1, g1⟩, ⟨h2, g2⟩, ⟨h3, g3⟩, ⟨h4, g4⟩, ⟨h5, g5⟩, ⟨h6, g6⟩⟩, ka⟩) dX2_collect_25 (Nat.le_of_ble_eq_true rfl) (Nat.le_of_ble_eq_true rfl)
  · rw [ixo_ge h]
    refine lv_if_eq (tgt := 24) hx hb dX2_collect_10 (by decide) (fun _ => ?_) (fun c9 => absurd (rfl) c9)
    refine lv_iconst (v := (-1)) hx hb dX2_collect_24 (by decide) ?_
    have hA : fCollect ((n, kd, th, ca), rw, (an, fl), (c0, c1, c2, c3, c4, c5)) q b = (-1, ((n, kd, th, ca), rw, (an, fl), (c0, c1, c2, c3, c4, c5))) := by simp only [fCollect, ixo_ge h]
    exact r_iret M hr hlk hP (by rw [hA]; exact ⟨rfl, ⟨wy, a0, a1, a2, a3, a4, a5, a6, 0, f0, f1, f2, f3, f4, f5, f6, hy, ⟨h0, g0⟩, ⟨h1, g1⟩, ⟨h2, g2⟩, ⟨h3, g3⟩, ⟨h4, g4⟩, ⟨h5, g5⟩, ⟨h6, g6⟩⟩, ka⟩) dX2_collect_25 (Nat.le_of_ble_eq_true rfl) (Nat.le_of_ble_eq_true rfl)
  · rw [ixo_in hk (show 4 < 2 ^ 31 by decide)]
    refine lv_if_eq (tgt := 24) hx hb dX2_collect_10 (by decide) (fun c9 => absurd c9 (h10)) (fun _ => ?_)
    refine lv_aload_n hx hb dX2_collect_13 rfl (lv_at hl 0 rfl) ?_
    refine r_get M cdX2 hP hy 1 (by decide) q556 (fun _ h9 => h9) rfl dX2_collect_14 ?_
    refine lv_iload_n hx hb dX2_collect_17 rfl (lv_at hl 1 rfl) ?_
    refine r_iald M hP h1 (vp_in_nI hk (by decide)) dX2_collect_18 ?_
    rw [nI_clamp (by omega), g1 k hk]
    refine lv_bipush (v := 50) hx hb dX2_collect_19 (by decide) ?_
    have hl5 := hlen k
    by_cases h50 : (rw k).length = 50
    · refine lv_icmp_ne (tgt := 26) hx hb dX2_collect_21 (by decide) (fun c9 => absurd (by rw [h50]; decide +kernel) c9) (fun _ => ?_)
      refine lv_iconst (v := (-1)) hx hb dX2_collect_24 (by decide) ?_
      have hA : fCollect ((n, kd, th, ca), rw, (an, fl), (c0, c1, c2, c3, c4, c5)) (nI k) b = (-1, ((n, kd, th, ca), rw, (an, fl), (c0, c1, c2, c3, c4, c5))) := by simp only [fCollect, ixo_in hk (show 4 < 2 ^ 31 by decide)]; exact if_pos h50
      exact r_iret M hr hlk hP (by rw [hA]; exact ⟨rfl, ⟨wy, a0, a1, a2, a3, a4, a5, a6, 0, f0, f1, f2, f3, f4, f5, f6, hy, ⟨h0, g0⟩, ⟨h1, g1⟩, ⟨h2, g2⟩, ⟨h3, g3⟩, ⟨h4, g4⟩, ⟨h5, g5⟩, ⟨h6, g6⟩⟩, ka⟩) dX2_collect_25 (Nat.le_of_ble_eq_true rfl) (Nat.le_of_ble_eq_true rfl)
    · refine lv_icmp_ne (tgt := 26) hx hb dX2_collect_21 (by decide) (fun _ => ?_) (fun c9 => absurd c9 (fun z => h50 ((nI_eq (b := 50) (by omega) (by decide)).mp z)))
      refine lv_aload_n hx hb dX2_collect_26 rfl (lv_at hl 0 rfl) ?_
      refine r_get M cdX2 hP hy 0 (by decide) q555 (fun _ h9 => h9) rfl dX2_collect_27 ?_
      refine lv_iload_n hx hb dX2_collect_30 rfl (lv_at hl 1 rfl) ?_
      refine lv_dup2_11 hx hb dX2_collect_31 rfl rfl ?_
      refine r_lald M hP h0 (vp_in_nI hk (by decide)) dX2_collect_32 ?_
      rw [nI_clamp (by omega), g0 k hk]
      refine lv_lload_n hx hb dX2_collect_33 rfl (lv_at hl 2 rfl) ?_
      refine lv_ladd hx hb dX2_collect_34 ?_
      refine r_last M hP h0 (vp_in_nI hk (by decide)) dX2_collect_35 (fun H locs hP => ?_)
      rw [nI_clamp (by omega)] at hP
      obtain ⟨w2, ew2⟩ : ∃ z : mm, z = mset w1 a0 (51, eJ G 4 (vp_updL f0 k (vsum (rw k) + b))) := ⟨_, rfl⟩
      have hP := Px.re ew2 hP
      have kk1 : Kp (fun t => t ≠ 51) w1 w2 := by rw [ew2]; exact Kp.put h0 (fun z => z rfl)
      have h1 := kk1 _ _ _ h1 (by omega)
      have h2 := kk1 _ _ _ h2 (by omega)
      have h3 := kk1 _ _ _ h3 (by omega)
      have h4 := kk1 _ _ _ h4 (by omega)
      have h5 := kk1 _ _ _ h5 (by omega)
      have h6 := kk1 _ _ _ h6 (by omega)
      have hy := kk1 _ _ _ hy (by omega)
      have h0 : w2 a0 = some (51, eJ G 4 (vp_updL f0 k (vsum (rw k) + b))) := by rw [ew2]; exact mset_self ..
      have ka := ka.tr (kk1.mono (fun t ht => by unfold NT at ht; omega))
      refine lv_aload_n hx hb dX2_collect_36 rfl (lv_at hl 0 rfl) ?_
      refine r_get M cdX2 hP hy 1 (by decide) q556 (fun _ h9 => h9) rfl dX2_collect_37 ?_
      refine lv_iload_n hx hb dX2_collect_40 rfl (lv_at hl 1 rfl) ?_
      refine lv_dup2_11 hx hb dX2_collect_41 rfl rfl ?_
      refine r_iald M hP h1 (vp_in_nI hk (by decide)) dX2_collect_42 ?_
      rw [nI_clamp (by omega), g1 k hk]
      refine lv_iconst (v := 1) hx hb dX2_collect_43 (by decide) ?_
      refine lv_iadd hx hb dX2_collect_44 ?_
      rw [nI_1]
      refine r_iast M hP h1 (vp_in_nI hk (by decide)) dX2_collect_45 (fun H locs hP => ?_)
      rw [nI_clamp (by omega)] at hP
      obtain ⟨w3, ew3⟩ : ∃ z : mm, z = mset w2 a1 (52, eI G 4 (upd f1 k (nI ((rw k).length + 1)))) := ⟨_, rfl⟩
      have hP := Px.re ew3 hP
      have kk2 : Kp (fun t => t ≠ 52) w2 w3 := by rw [ew3]; exact Kp.put h1 (fun z => z rfl)
      have h0 := kk2 _ _ _ h0 (by omega)
      have h2 := kk2 _ _ _ h2 (by omega)
      have h3 := kk2 _ _ _ h3 (by omega)
      have h4 := kk2 _ _ _ h4 (by omega)
      have h5 := kk2 _ _ _ h5 (by omega)
      have h6 := kk2 _ _ _ h6 (by omega)
      have hy := kk2 _ _ _ hy (by omega)
      have h1 : w3 a1 = some (52, eI G 4 (upd f1 k (nI ((rw k).length + 1)))) := by rw [ew3]; exact mset_self ..
      have ka := ka.tr (kk2.mono (fun t ht => by unfold NT at ht; omega))
      refine lv_aload_n hx hb dX2_collect_46 rfl (lv_at hl 0 rfl) ?_
      refine r_get M cdX2 hP hy 1 (by decide) q556 (fun _ h9 => h9) rfl dX2_collect_47 ?_
      refine lv_iload_n hx hb dX2_collect_50 rfl (lv_at hl 1 rfl) ?_
      refine r_iald M hP h1 (vp_in_nI hk (by decide)) dX2_collect_51 ?_
      rw [nI_clamp (by omega), pk_us]
      have hA : fCollect ((n, kd, th, ca), rw, (an, fl), (c0, c1, c2, c3, c4, c5)) (nI k) b = (nI ((rw k).length + 1), ((n, kd, th, ca), va_up rw k (rw k ++ [b]), (an, fl), (c0, c1, c2, c3, c4, c5))) := by simp only [fCollect, ixo_in hk (show 4 < 2 ^ 31 by decide)]; exact if_neg h50
      have g0 : ∀ j, j < 4 → vp_updL f0 k (vsum (rw k) + b) j = vsum (va_up rw k (rw k ++ [b]) j) := fun j hj => by
        by_cases hjk : j = k
        · rw [hjk, pk_uLs, va_up_self, vsum_snoc]
        · rw [pk_uLn hjk, va_up_ne _ _ hjk, g0 j hj]
      have g1 : ∀ j, j < 4 → upd f1 k (nI ((rw k).length + 1)) j = nI (va_up rw k (rw k ++ [b]) j).length := fun j hj => by
        by_cases hjk : j = k
        · rw [hjk, pk_us, va_up_self, List.length_append]
          rfl
        · rw [pk_un hjk, va_up_ne _ _ hjk, g1 j hj]
      exact r_iret M hr hlk hP (by rw [hA]; exact ⟨rfl, ⟨wy, a0, a1, a2, a3, a4, a5, a6, 0, (vp_updL f0 k (vsum (rw k) + b)), (upd f1 k (nI ((rw k).length + 1))), f2, f3, f4, f5, f6, hy, ⟨h0, g0⟩, ⟨h1, g1⟩, ⟨h2, g2⟩, ⟨h3, g3⟩, ⟨h4, g4⟩, ⟨h5, g5⟩, ⟨h6, g6⟩⟩, ka⟩) dX2_collect_52 (Nat.le_of_ble_eq_true rfl) (Nat.le_of_ble_eq_true rfl)
set_option maxHeartbeats 4000000 in
set_option maxRecDepth 100000 in
/-- MainframeDeskModel.answer(call, v) -/
theorem m_manswer {l : Launch} {s0 : State} {D : va_G} {G ad : Nat → Nat} {w : mm} (E : Bs l s0 D G ad) {x : Nat} {n : Nat} {kd : Nat → Int32} {th : Nat → Bool} {ca : Nat → Nat} {rw : Nat → List Int64} {an : Nat → Int64} {fl : Nat → Nat} {c0 c1 c2 c3 c4 c5 : Int32} (h : MD G w x ((n, kd, th, ca), rw, (an, fl), (c0, c1, c2, c3, c4, c5))) (hn : n ≤ 200) (q : Int32) (b : Int64) : Mt l yX2_answer cX2_answer 4 (some FieldType.int) (rmk 1 0 0 30) [.ref x, .int q, .long b] s0 D w (Qi s0 D (fun r w1 => r = (fAnswer ((n, kd, th, ca), rw, (an, fl), (c0, c1, c2, c3, c4, c5)) q b).1 ∧ MD G w1 x (fAnswer ((n, kd, th, ca), rw, (an, fl), (c0, c1, c2, c3, c4, c5)) q b).2 ∧ Kp NT w w1)) := by
  refine Met.go E (by decide +kernel) (Nat.le_of_ble_eq_true rfl) (fun p ev s m below meth c ls M hr hlk hnm hl hP => ?_)
  have hx := M.1.1
  have hb := M.1.2.1
  have hl : lv_has ls 4 [(0, .ref x), (1, .int q), (2, .long b)] := hl
  obtain ⟨wy, a0, a1, a2, a3, a4, a5, a6, z, f0, f1, f2, f3, f4, f5, f6, hy, ⟨h0, g0⟩, ⟨h1, g1⟩, ⟨h2, g2⟩, ⟨h3, g3⟩, ⟨h4, g4⟩, ⟨h5, g5⟩, ⟨h6, g6⟩⟩ := h
  refine lv_aload_n hx hb dX2_answer_0 rfl (lv_at hl 0 rfl) ?_
  refine lv_iconst (v := 0) hx hb dX2_answer_1 (by decide) ?_
  refine r_put (v := .int 0) M cdX2 hP hy 8 (by decide) q563 (fun _ h9 => h9) rfl rfl rfl (Nat.le_of_ble_eq_true rfl) dX2_answer_2 (fun H locs hP => ?_)
  obtain ⟨w1, ew1⟩ : ∃ z : mm, z = mset w x (50, oM a0 a1 a2 a3 a4 a5 a6 n 0 c0 c1 c2 c3 c4 c5 wy) := ⟨_, rfl⟩
  have hP := Px.re ew1 hP
  have kk0 : Kp (fun t => t ≠ 50) w w1 := by rw [ew1]; exact Kp.put hy (fun z => z rfl)
  have h0 := kk0 _ _ _ h0 (by omega)
  have h1 := kk0 _ _ _ h1 (by omega)
  have h2 := kk0 _ _ _ h2 (by omega)
  have h3 := kk0 _ _ _ h3 (by omega)
  have h4 := kk0 _ _ _ h4 (by omega)
  have h5 := kk0 _ _ _ h5 (by omega)
  have h6 := kk0 _ _ _ h6 (by omega)
  have hy : w1 x = some (50, oM a0 a1 a2 a3 a4 a5 a6 n 0 c0 c1 c2 c3 c4 c5 wy) := by rw [ew1]; exact mset_self ..
  have ka : Kp NT w w1 := kk0.mono (fun t ht => by unfold NT at ht; omega)
  refine lv_iload_n hx hb dX2_answer_5 rfl (lv_at hl 1 rfl) ?_
  refine lv_bipush (v := 32) hx hb dX2_answer_6 (by decide) ?_
  refine c_i (r_runS 2 M (m_below E q 32 (by decide)) hP (lw_S q610 q611 q21 q612) (by decide +kernel) rfl ⟨Nat.le_of_ble_eq_true rfl, Nat.le_of_ble_eq_true rfl⟩ hl.1 rfl (Nat.le_of_ble_eq_true rfl) dX2_answer_8 ⟨Nat.le_of_ble_eq_true rfl, Nat.le_of_ble_eq_true rfl⟩) hP (fun r w9 H locs hq hP => ?_)
  obtain ⟨er, ew⟩ := hq
  rw [ew] at hP
  rw [er]
  rcases pk_ix q (n := 32) (by decide) with h | h | ⟨k, hk, rfl⟩
  · rw [ixo_neg h]
    refine lv_if_ne (tgt := 16) hx hb dX2_answer_11 (by decide) (fun c9 => absurd (rfl) c9) (fun _ => ?_)
    refine lv_iconst (v := (-1)) hx hb dX2_answer_14 (by decide) ?_
    have hA : fAnswer ((n, kd, th, ca), rw, (an, fl), (c0, c1, c2, c3, c4, c5)) q b = (-1, ((n, kd, th, ca), rw, (an, fl), (c0, c1, c2, c3, c4, c5))) := by simp only [fAnswer, ixo_neg h]
    exact r_iret M hr hlk hP (by rw [hA]; exact ⟨rfl, ⟨wy, a0, a1, a2, a3, a4, a5, a6, 0, f0, f1, f2, f3, f4, f5, f6, hy, ⟨h0, g0⟩, ⟨h1, g1⟩, ⟨h2, g2⟩, ⟨h3, g3⟩, ⟨h4, g4⟩, ⟨h5, g5⟩, ⟨h6, g6⟩⟩, ka⟩) dX2_answer_15 (Nat.le_of_ble_eq_true rfl) (Nat.le_of_ble_eq_true rfl)
  · rw [ixo_ge h]
    refine lv_if_ne (tgt := 16) hx hb dX2_answer_11 (by decide) (fun c9 => absurd (rfl) c9) (fun _ => ?_)
    refine lv_iconst (v := (-1)) hx hb dX2_answer_14 (by decide) ?_
    have hA : fAnswer ((n, kd, th, ca), rw, (an, fl), (c0, c1, c2, c3, c4, c5)) q b = (-1, ((n, kd, th, ca), rw, (an, fl), (c0, c1, c2, c3, c4, c5))) := by simp only [fAnswer, ixo_ge h]
    exact r_iret M hr hlk hP (by rw [hA]; exact ⟨rfl, ⟨wy, a0, a1, a2, a3, a4, a5, a6, 0, f0, f1, f2, f3, f4, f5, f6, hy, ⟨h0, g0⟩, ⟨h1, g1⟩, ⟨h2, g2⟩, ⟨h3, g3⟩, ⟨h4, g4⟩, ⟨h5, g5⟩, ⟨h6, g6⟩⟩, ka⟩) dX2_answer_15 (Nat.le_of_ble_eq_true rfl) (Nat.le_of_ble_eq_true rfl)
  · rw [ixo_in hk (show 32 < 2 ^ 31 by decide)]
    refine lv_if_ne (tgt := 16) hx hb dX2_answer_11 (by decide) (fun _ => ?_) (fun c9 => absurd c9 (h10))
    refine lv_aload_n hx hb dX2_answer_16 rfl (lv_at hl 0 rfl) ?_
    refine r_get M cdX2 hP hy 2 (by decide) q557 (fun _ h9 => h9) rfl dX2_answer_17 ?_
    refine lv_iload_n hx hb dX2_answer_20 rfl (lv_at hl 1 rfl) ?_
    refine lv_lload_n hx hb dX2_answer_21 rfl (lv_at hl 2 rfl) ?_
    refine r_last M hP h2 (vp_in_nI hk (by decide)) dX2_answer_22 (fun H locs hP => ?_)
    rw [nI_clamp (by omega)] at hP
    obtain ⟨w2, ew2⟩ : ∃ z : mm, z = mset w1 a2 (53, eJ G 32 (vp_updL f2 k b)) := ⟨_, rfl⟩
    have hP := Px.re ew2 hP
    have kk1 : Kp (fun t => t ≠ 53) w1 w2 := by rw [ew2]; exact Kp.put h2 (fun z => z rfl)
    have h0 := kk1 _ _ _ h0 (by omega)
    have h1 := kk1 _ _ _ h1 (by omega)
    have h3 := kk1 _ _ _ h3 (by omega)
    have h4 := kk1 _ _ _ h4 (by omega)
    have h5 := kk1 _ _ _ h5 (by omega)
    have h6 := kk1 _ _ _ h6 (by omega)
    have hy := kk1 _ _ _ hy (by omega)
    have h2 : w2 a2 = some (53, eJ G 32 (vp_updL f2 k b)) := by rw [ew2]; exact mset_self ..
    have ka := ka.tr (kk1.mono (fun t ht => by unfold NT at ht; omega))
    refine lv_iconst (v := 1) hx hb dX2_answer_23 (by decide) ?_
    have hA : fAnswer ((n, kd, th, ca), rw, (an, fl), (c0, c1, c2, c3, c4, c5)) (nI k) b = (1, ((n, kd, th, ca), rw, (va_up an k b, fl), (c0, c1, c2, c3, c4, c5))) := by simp only [fAnswer, ixo_in hk (show 32 < 2 ^ 31 by decide)]
    have g2 : ∀ j, j < 32 → vp_updL f2 k b j = va_up an k b j := fun j hj => by
      by_cases hjk : j = k
      · rw [hjk, pk_uLs, va_up_self]
      · rw [pk_uLn hjk, va_up_ne _ _ hjk, g2 j hj]
    exact r_iret M hr hlk hP (by rw [hA]; exact ⟨rfl, ⟨wy, a0, a1, a2, a3, a4, a5, a6, 0, f0, f1, (vp_updL f2 k b), f3, f4, f5, f6, hy, ⟨h0, g0⟩, ⟨h1, g1⟩, ⟨h2, g2⟩, ⟨h3, g3⟩, ⟨h4, g4⟩, ⟨h5, g5⟩, ⟨h6, g6⟩⟩, ka⟩) dX2_answer_24 (Nat.le_of_ble_eq_true rfl) (Nat.le_of_ble_eq_true rfl)
set_option maxHeartbeats 4000000 in
set_option maxRecDepth 100000 in
/-- MainframeDeskModel.fails(call, kind) -/
theorem m_mfails {l : Launch} {s0 : State} {D : va_G} {G ad : Nat → Nat} {w : mm} (E : Bs l s0 D G ad) {x : Nat} {n : Nat} {kd : Nat → Int32} {th : Nat → Bool} {ca : Nat → Nat} {rw : Nat → List Int64} {an : Nat → Int64} {fl : Nat → Nat} {c0 c1 c2 c3 c4 c5 : Int32} (h : MD G w x ((n, kd, th, ca), rw, (an, fl), (c0, c1, c2, c3, c4, c5))) (hn : n ≤ 200) (q u : Int32) : Mt l yX2_fails cX2_fails 4 (some FieldType.int) (rmk 1 0 0 30) [.ref x, .int q, .int u] s0 D w (Qi s0 D (fun r w1 => r = (fFails ((n, kd, th, ca), rw, (an, fl), (c0, c1, c2, c3, c4, c5)) q u).1 ∧ MD G w1 x (fFails ((n, kd, th, ca), rw, (an, fl), (c0, c1, c2, c3, c4, c5)) q u).2 ∧ Kp NT w w1)) := by
  refine Met.go E (by decide +kernel) (Nat.le_of_ble_eq_true rfl) (fun p ev s m below meth c ls M hr hlk hnm hl hP => ?_)
  have hx := M.1.1
  have hb := M.1.2.1
  have hl : lv_has ls 4 [(0, .ref x), (1, .int q), (2, .int u)] := hl
  obtain ⟨wy, a0, a1, a2, a3, a4, a5, a6, z, f0, f1, f2, f3, f4, f5, f6, hy, ⟨h0, g0⟩, ⟨h1, g1⟩, ⟨h2, g2⟩, ⟨h3, g3⟩, ⟨h4, g4⟩, ⟨h5, g5⟩, ⟨h6, g6⟩⟩ := h
  refine lv_aload_n hx hb dX2_fails_0 rfl (lv_at hl 0 rfl) ?_
  refine lv_iconst (v := 0) hx hb dX2_fails_1 (by decide) ?_
  refine r_put (v := .int 0) M cdX2 hP hy 8 (by decide) q563 (fun _ h9 => h9) rfl rfl rfl (Nat.le_of_ble_eq_true rfl) dX2_fails_2 (fun H locs hP => ?_)
  obtain ⟨w1, ew1⟩ : ∃ z : mm, z = mset w x (50, oM a0 a1 a2 a3 a4 a5 a6 n 0 c0 c1 c2 c3 c4 c5 wy) := ⟨_, rfl⟩
  have hP := Px.re ew1 hP
  have kk0 : Kp (fun t => t ≠ 50) w w1 := by rw [ew1]; exact Kp.put hy (fun z => z rfl)
  have h0 := kk0 _ _ _ h0 (by omega)
  have h1 := kk0 _ _ _ h1 (by omega)
  have h2 := kk0 _ _ _ h2 (by omega)
  have h3 := kk0 _ _ _ h3 (by omega)
  have h4 := kk0 _ _ _ h4 (by omega)
  have h5 := kk0 _ _ _ h5 (by omega)
  have h6 := kk0 _ _ _ h6 (by omega)
  have hy : w1 x = some (50, oM a0 a1 a2 a3 a4 a5 a6 n 0 c0 c1 c2 c3 c4 c5 wy) := by rw [ew1]; exact mset_self ..
  have ka : Kp NT w w1 := kk0.mono (fun t ht => by unfold NT at ht; omega)
  refine lv_iload_n hx hb dX2_fails_5 rfl (lv_at hl 1 rfl) ?_
  refine lv_bipush (v := 32) hx hb dX2_fails_6 (by decide) ?_
  refine c_i (r_runS 2 M (m_below E q 32 (by decide)) hP (lw_S q610 q611 q21 q612) (by decide +kernel) rfl ⟨Nat.le_of_ble_eq_true rfl, Nat.le_of_ble_eq_true rfl⟩ hl.1 rfl (Nat.le_of_ble_eq_true rfl) dX2_fails_8 ⟨Nat.le_of_ble_eq_true rfl, Nat.le_of_ble_eq_true rfl⟩) hP (fun r w9 H locs hq hP => ?_)
  obtain ⟨er, ew⟩ := hq
  rw [ew] at hP
  rw [er]
  rcases pk_ix q (n := 32) (by decide) with h | h | ⟨k, hk, rfl⟩
  · rw [ixo_neg h]
    refine lv_if_eq (tgt := 23) hx hb dX2_fails_11 (by decide) (fun _ => ?_) (fun c9 => absurd (rfl) c9)
    refine lv_iconst (v := (-1)) hx hb dX2_fails_23 (by decide) ?_
    have hA : fFails ((n, kd, th, ca), rw, (an, fl), (c0, c1, c2, c3, c4, c5)) q u = (-1, ((n, kd, th, ca), rw, (an, fl), (c0, c1, c2, c3, c4, c5))) := by simp only [fFails, ixo_neg h]
    exact r_iret M hr hlk hP (by rw [hA]; exact ⟨rfl, ⟨wy, a0, a1, a2, a3, a4, a5, a6, 0, f0, f1, f2, f3, f4, f5, f6, hy, ⟨h0, g0⟩, ⟨h1, g1⟩, ⟨h2, g2⟩, ⟨h3, g3⟩, ⟨h4, g4⟩, ⟨h5, g5⟩, ⟨h6, g6⟩⟩, ka⟩) dX2_fails_24 (Nat.le_of_ble_eq_true rfl) (Nat.le_of_ble_eq_true rfl)
  · rw [ixo_ge h]
    refine lv_if_eq (tgt := 23) hx hb dX2_fails_11 (by decide) (fun _ => ?_) (fun c9 => absurd (rfl) c9)
    refine lv_iconst (v := (-1)) hx hb dX2_fails_23 (by decide) ?_
    have hA : fFails ((n, kd, th, ca), rw, (an, fl), (c0, c1, c2, c3, c4, c5)) q u = (-1, ((n, kd, th, ca), rw, (an, fl), (c0, c1, c2, c3, c4, c5))) := by simp only [fFails, ixo_ge h]
    exact r_iret M hr hlk hP (by rw [hA]; exact ⟨rfl, ⟨wy, a0, a1, a2, a3, a4, a5, a6, 0, f0, f1, f2, f3, f4, f5, f6, hy, ⟨h0, g0⟩, ⟨h1, g1⟩, ⟨h2, g2⟩, ⟨h3, g3⟩, ⟨h4, g4⟩, ⟨h5, g5⟩, ⟨h6, g6⟩⟩, ka⟩) dX2_fails_24 (Nat.le_of_ble_eq_true rfl) (Nat.le_of_ble_eq_true rfl)
  · rw [ixo_in hk (show 32 < 2 ^ 31 by decide)]
    refine lv_if_eq (tgt := 23) hx hb dX2_fails_11 (by decide) (fun c9 => absurd c9 (h10)) (fun _ => ?_)
    refine lv_iload_n hx hb dX2_fails_14 rfl (lv_at hl 2 rfl) ?_
    refine lv_bipush (v := 7) hx hb dX2_fails_15 (by decide) ?_
    refine c_i (r_runS 2 M (m_below E u 7 (by decide)) hP (lw_S q610 q611 q21 q612) (by decide +kernel) rfl ⟨Nat.le_of_ble_eq_true rfl, Nat.le_of_ble_eq_true rfl⟩ hl.1 rfl (Nat.le_of_ble_eq_true rfl) dX2_fails_17 ⟨Nat.le_of_ble_eq_true rfl, Nat.le_of_ble_eq_true rfl⟩) hP (fun r w8 H locs hq hP => ?_)
    obtain ⟨er, ew⟩ := hq
    rw [ew] at hP
    rw [er]
    rcases pk_ix u (n := 7) (by decide) with h | h | ⟨j, hj, rfl⟩
    · rw [ixo_neg h]
      refine lv_if_ne (tgt := 25) hx hb dX2_fails_20 (by decide) (fun c9 => absurd (rfl) c9) (fun _ => ?_)
      refine lv_iconst (v := (-1)) hx hb dX2_fails_23 (by decide) ?_
      have hA : fFails ((n, kd, th, ca), rw, (an, fl), (c0, c1, c2, c3, c4, c5)) (nI k) u = (-1, ((n, kd, th, ca), rw, (an, fl), (c0, c1, c2, c3, c4, c5))) := by simp only [fFails, ixo_in hk (show 32 < 2 ^ 31 by decide), ixo_neg h]
      exact r_iret M hr hlk hP (by rw [hA]; exact ⟨rfl, ⟨wy, a0, a1, a2, a3, a4, a5, a6, 0, f0, f1, f2, f3, f4, f5, f6, hy, ⟨h0, g0⟩, ⟨h1, g1⟩, ⟨h2, g2⟩, ⟨h3, g3⟩, ⟨h4, g4⟩, ⟨h5, g5⟩, ⟨h6, g6⟩⟩, ka⟩) dX2_fails_24 (Nat.le_of_ble_eq_true rfl) (Nat.le_of_ble_eq_true rfl)
    · rw [ixo_ge h]
      refine lv_if_ne (tgt := 25) hx hb dX2_fails_20 (by decide) (fun c9 => absurd (rfl) c9) (fun _ => ?_)
      refine lv_iconst (v := (-1)) hx hb dX2_fails_23 (by decide) ?_
      have hA : fFails ((n, kd, th, ca), rw, (an, fl), (c0, c1, c2, c3, c4, c5)) (nI k) u = (-1, ((n, kd, th, ca), rw, (an, fl), (c0, c1, c2, c3, c4, c5))) := by simp only [fFails, ixo_in hk (show 32 < 2 ^ 31 by decide), ixo_ge h]
      exact r_iret M hr hlk hP (by rw [hA]; exact ⟨rfl, ⟨wy, a0, a1, a2, a3, a4, a5, a6, 0, f0, f1, f2, f3, f4, f5, f6, hy, ⟨h0, g0⟩, ⟨h1, g1⟩, ⟨h2, g2⟩, ⟨h3, g3⟩, ⟨h4, g4⟩, ⟨h5, g5⟩, ⟨h6, g6⟩⟩, ka⟩) dX2_fails_24 (Nat.le_of_ble_eq_true rfl) (Nat.le_of_ble_eq_true rfl)
    · rw [ixo_in hj (show 7 < 2 ^ 31 by decide)]
      refine lv_if_ne (tgt := 25) hx hb dX2_fails_20 (by decide) (fun _ => ?_) (fun c9 => absurd c9 (h10))
      refine lv_aload_n hx hb dX2_fails_25 rfl (lv_at hl 0 rfl) ?_
      refine r_get M cdX2 hP hy 3 (by decide) q558 (fun _ h9 => h9) rfl dX2_fails_26 ?_
      refine lv_iload_n hx hb dX2_fails_29 rfl (lv_at hl 1 rfl) ?_
      refine r_iald M hP h3 (vp_in_nI hk (by decide)) dX2_fails_30 ?_
      rw [nI_clamp (by omega), g3 k hk]
      refine lv_istore_n (lv' := [(3, .int (nI (fl k))), (0, .ref x), (1, .int (nI k)), (2, .int (nI j))]) hx hb dX2_fails_31 rfl hl (by decide) rfl (fun ls hl => ?_)
      refine lv_aload_n hx hb dX2_fails_32 rfl (lv_at hl 1 rfl) ?_
      refine r_get M cdX2 hP hy 3 (by decide) q558 (fun _ h9 => h9) rfl dX2_fails_33 ?_
      refine lv_iload_n hx hb dX2_fails_36 rfl (lv_at hl 2 rfl) ?_
      refine lv_iload_n hx hb dX2_fails_37 rfl (lv_at hl 3 rfl) ?_
      refine r_iast M hP h3 (vp_in_nI hk (by decide)) dX2_fails_38 (fun H locs hP => ?_)
      rw [nI_clamp (by omega)] at hP
      obtain ⟨w2, ew2⟩ : ∃ z : mm, z = mset w1 a3 (54, eI G 32 (upd f3 k (nI j))) := ⟨_, rfl⟩
      have hP := Px.re ew2 hP
      have kk1 : Kp (fun t => t ≠ 54) w1 w2 := by rw [ew2]; exact Kp.put h3 (fun z => z rfl)
      have h0 := kk1 _ _ _ h0 (by omega)
      have h1 := kk1 _ _ _ h1 (by omega)
      have h2 := kk1 _ _ _ h2 (by omega)
      have h4 := kk1 _ _ _ h4 (by omega)
      have h5 := kk1 _ _ _ h5 (by omega)
      have h6 := kk1 _ _ _ h6 (by omega)
      have hy := kk1 _ _ _ hy (by omega)
      have h3 : w2 a3 = some (54, eI G 32 (upd f3 k (nI j))) := by rw [ew2]; exact mset_self ..
      have ka := ka.tr (kk1.mono (fun t ht => by unfold NT at ht; omega))
      refine lv_iload_n hx hb dX2_fails_39 rfl (lv_at hl 0 rfl) ?_
      have hA : fFails ((n, kd, th, ca), rw, (an, fl), (c0, c1, c2, c3, c4, c5)) (nI k) (nI j) = (nI (fl k), ((n, kd, th, ca), rw, (an, va_up fl k j), (c0, c1, c2, c3, c4, c5))) := by simp only [fFails, ixo_in hk (show 32 < 2 ^ 31 by decide), ixo_in hj (show 7 < 2 ^ 31 by decide)]
      have g3 : ∀ i, i < 32 → upd f3 k (nI j) i = nI (va_up fl k j i) := fun i hi => by
        by_cases hik : i = k
        · rw [hik, pk_us, va_up_self]
        · rw [pk_un hik, va_up_ne _ _ hik, g3 i hi]
      exact r_iret M hr hlk hP (by rw [hA]; exact ⟨rfl, ⟨wy, a0, a1, a2, a3, a4, a5, a6, 0, f0, f1, f2, (upd f3 k (nI j)), f4, f5, f6, hy, ⟨h0, g0⟩, ⟨h1, g1⟩, ⟨h2, g2⟩, ⟨h3, g3⟩, ⟨h4, g4⟩, ⟨h5, g5⟩, ⟨h6, g6⟩⟩, ka⟩) dX2_fails_40 (Nat.le_of_ble_eq_true rfl) (Nat.le_of_ble_eq_true rfl)
set_option maxHeartbeats 4000000 in
set_option maxRecDepth 100000 in
/-- MainframeDeskModel.make(kind) -/
theorem m_mmake {l : Launch} {s0 : State} {D : va_G} {G ad : Nat → Nat} {w : mm} (E : Bs l s0 D G ad) {x : Nat} {n : Nat} {kd : Nat → Int32} {th : Nat → Bool} {ca : Nat → Nat} {rw : Nat → List Int64} {an : Nat → Int64} {fl : Nat → Nat} {c0 c1 c2 c3 c4 c5 : Int32} (h : MD G w x ((n, kd, th, ca), rw, (an, fl), (c0, c1, c2, c3, c4, c5))) (hn : n ≤ 200) (q : Int32) : Mt l yX2_make cX2_make 2 (some FieldType.int) (rmk 1 0 0 30) [.ref x, .int q] s0 D w (Qi s0 D (fun r w1 => r = (fMake ((n, kd, th, ca), rw, (an, fl), (c0, c1, c2, c3, c4, c5)) q).1 ∧ MD G w1 x (fMake ((n, kd, th, ca), rw, (an, fl), (c0, c1, c2, c3, c4, c5)) q).2 ∧ Kp NT w w1)) := by
  refine Met.go E (by decide +kernel) (Nat.le_of_ble_eq_true rfl) (fun p ev s m below meth c ls M hr hlk hnm hl hP => ?_)
  have hx := M.1.1
  have hb := M.1.2.1
  have hl : lv_has ls 2 [(0, .ref x), (1, .int q)] := hl
  obtain ⟨wy, a0, a1, a2, a3, a4, a5, a6, z, f0, f1, f2, f3, f4, f5, f6, hy, ⟨h0, g0⟩, ⟨h1, g1⟩, ⟨h2, g2⟩, ⟨h3, g3⟩, ⟨h4, g4⟩, ⟨h5, g5⟩, ⟨h6, g6⟩⟩ := h
  refine lv_aload_n hx hb dX2_make_0 rfl (lv_at hl 0 rfl) ?_
  refine lv_iconst (v := 0) hx hb dX2_make_1 (by decide) ?_
  refine r_put (v := .int 0) M cdX2 hP hy 8 (by decide) q563 (fun _ h9 => h9) rfl rfl rfl (Nat.le_of_ble_eq_true rfl) dX2_make_2 (fun H locs hP => ?_)
  obtain ⟨w1, ew1⟩ : ∃ z : mm, z = mset w x (50, oM a0 a1 a2 a3 a4 a5 a6 n 0 c0 c1 c2 c3 c4 c5 wy) := ⟨_, rfl⟩
  have hP := Px.re ew1 hP
  have kk0 : Kp (fun t => t ≠ 50) w w1 := by rw [ew1]; exact Kp.put hy (fun z => z rfl)
  have h0 := kk0 _ _ _ h0 (by omega)
  have h1 := kk0 _ _ _ h1 (by omega)
  have h2 := kk0 _ _ _ h2 (by omega)
  have h3 := kk0 _ _ _ h3 (by omega)
  have h4 := kk0 _ _ _ h4 (by omega)
  have h5 := kk0 _ _ _ h5 (by omega)
  have h6 := kk0 _ _ _ h6 (by omega)
  have hy : w1 x = some (50, oM a0 a1 a2 a3 a4 a5 a6 n 0 c0 c1 c2 c3 c4 c5 wy) := by rw [ew1]; exact mset_self ..
  have ka : Kp NT w w1 := kk0.mono (fun t ht => by unfold NT at ht; omega)
  refine lv_iload_n hx hb dX2_make_5 rfl (lv_at hl 1 rfl) ?_
  refine lv_bipush (v := 8) hx hb dX2_make_6 (by decide) ?_
  refine c_i (r_runS 2 M (m_below E q 8 (by decide)) hP (lw_S q610 q611 q21 q612) (by decide +kernel) rfl ⟨Nat.le_of_ble_eq_true rfl, Nat.le_of_ble_eq_true rfl⟩ hl.1 rfl (Nat.le_of_ble_eq_true rfl) dX2_make_8 ⟨Nat.le_of_ble_eq_true rfl, Nat.le_of_ble_eq_true rfl⟩) hP (fun r w9 H locs hq hP => ?_)
  obtain ⟨er, ew⟩ := hq
  rw [ew] at hP
  rw [er]
  rcases pk_ix q (n := 8) (by decide) with h | h | ⟨k, hk, rfl⟩
  · rw [ixo_neg h]
    refine lv_if_eq (tgt := 24) hx hb dX2_make_11 (by decide) (fun _ => ?_) (fun c9 => absurd (rfl) c9)
    refine lv_iconst (v := (-1)) hx hb dX2_make_24 (by decide) ?_
    have hA : fMake ((n, kd, th, ca), rw, (an, fl), (c0, c1, c2, c3, c4, c5)) q = (-1, ((n, kd, th, ca), rw, (an, fl), (c0, c1, c2, c3, c4, c5))) := by simp only [fMake, ixo_neg h]
    exact r_iret M hr hlk hP (by rw [hA]; exact ⟨rfl, ⟨wy, a0, a1, a2, a3, a4, a5, a6, 0, f0, f1, f2, f3, f4, f5, f6, hy, ⟨h0, g0⟩, ⟨h1, g1⟩, ⟨h2, g2⟩, ⟨h3, g3⟩, ⟨h4, g4⟩, ⟨h5, g5⟩, ⟨h6, g6⟩⟩, ka⟩) dX2_make_25 (Nat.le_of_ble_eq_true rfl) (Nat.le_of_ble_eq_true rfl)
  · rw [ixo_ge h]
    refine lv_if_eq (tgt := 24) hx hb dX2_make_11 (by decide) (fun _ => ?_) (fun c9 => absurd (rfl) c9)
    refine lv_iconst (v := (-1)) hx hb dX2_make_24 (by decide) ?_
    have hA : fMake ((n, kd, th, ca), rw, (an, fl), (c0, c1, c2, c3, c4, c5)) q = (-1, ((n, kd, th, ca), rw, (an, fl), (c0, c1, c2, c3, c4, c5))) := by simp only [fMake, ixo_ge h]
    exact r_iret M hr hlk hP (by rw [hA]; exact ⟨rfl, ⟨wy, a0, a1, a2, a3, a4, a5, a6, 0, f0, f1, f2, f3, f4, f5, f6, hy, ⟨h0, g0⟩, ⟨h1, g1⟩, ⟨h2, g2⟩, ⟨h3, g3⟩, ⟨h4, g4⟩, ⟨h5, g5⟩, ⟨h6, g6⟩⟩, ka⟩) dX2_make_25 (Nat.le_of_ble_eq_true rfl) (Nat.le_of_ble_eq_true rfl)
  · rw [ixo_in hk (show 8 < 2 ^ 31 by decide)]
    refine lv_if_eq (tgt := 24) hx hb dX2_make_11 (by decide) (fun c9 => absurd c9 (h10)) (fun _ => ?_)
    refine lv_aload_n hx hb dX2_make_14 rfl (lv_at hl 0 rfl) ?_
    refine r_get M cdX2 hP hy 7 (by decide) q562 (fun _ h9 => h9) rfl dX2_make_15 ?_
    refine lv_sipush (v := 200) hx hb dX2_make_18 (by decide) ?_
    by_cases h2h : n = 200
    · refine lv_icmp_ne (tgt := 26) hx hb dX2_make_21 (by decide) (fun c9 => absurd (by rw [h2h]; decide +kernel) c9) (fun _ => ?_)
      refine lv_iconst (v := (-1)) hx hb dX2_make_24 (by decide) ?_
      have hA : fMake ((n, kd, th, ca), rw, (an, fl), (c0, c1, c2, c3, c4, c5)) (nI k) = (-1, ((n, kd, th, ca), rw, (an, fl), (c0, c1, c2, c3, c4, c5))) := by simp only [fMake, ixo_in hk (show 8 < 2 ^ 31 by decide)]; exact if_pos h2h
      exact r_iret M hr hlk hP (by rw [hA]; exact ⟨rfl, ⟨wy, a0, a1, a2, a3, a4, a5, a6, 0, f0, f1, f2, f3, f4, f5, f6, hy, ⟨h0, g0⟩, ⟨h1, g1⟩, ⟨h2, g2⟩, ⟨h3, g3⟩, ⟨h4, g4⟩, ⟨h5, g5⟩, ⟨h6, g6⟩⟩, ka⟩) dX2_make_25 (Nat.le_of_ble_eq_true rfl) (Nat.le_of_ble_eq_true rfl)
    · refine lv_icmp_ne (tgt := 26) hx hb dX2_make_21 (by decide) (fun _ => ?_) (fun c9 => absurd c9 (fun z => h2h ((nI_eq (b := 200) (by omega) (by decide)).mp z)))
      refine lv_aload_n hx hb dX2_make_26 rfl (lv_at hl 0 rfl) ?_
      refine r_get M cdX2 hP hy 4 (by decide) q559 (fun _ h9 => h9) rfl dX2_make_27 ?_
      refine lv_aload_n hx hb dX2_make_30 rfl (lv_at hl 0 rfl) ?_
      refine r_get M cdX2 hP hy 7 (by decide) q562 (fun _ h9 => h9) rfl dX2_make_31 ?_
      refine lv_iload_n hx hb dX2_make_34 rfl (lv_at hl 1 rfl) ?_
      refine r_iast M hP h4 (vp_in_nI (by omega) (by decide)) dX2_make_35 (fun H locs hP => ?_)
      rw [nI_clamp (by omega)] at hP
      obtain ⟨w2, ew2⟩ : ∃ z : mm, z = mset w1 a4 (55, eI G 200 (upd f4 n (nI k))) := ⟨_, rfl⟩
      have hP := Px.re ew2 hP
      have kk1 : Kp (fun t => t ≠ 55) w1 w2 := by rw [ew2]; exact Kp.put h4 (fun z => z rfl)
      have h0 := kk1 _ _ _ h0 (by omega)
      have h1 := kk1 _ _ _ h1 (by omega)
      have h2 := kk1 _ _ _ h2 (by omega)
      have h3 := kk1 _ _ _ h3 (by omega)
      have h5 := kk1 _ _ _ h5 (by omega)
      have h6 := kk1 _ _ _ h6 (by omega)
      have hy := kk1 _ _ _ hy (by omega)
      have h4 : w2 a4 = some (55, eI G 200 (upd f4 n (nI k))) := by rw [ew2]; exact mset_self ..
      have ka := ka.tr (kk1.mono (fun t ht => by unfold NT at ht; omega))
      refine lv_aload_n hx hb dX2_make_36 rfl (lv_at hl 0 rfl) ?_
      refine r_get M cdX2 hP hy 5 (by decide) q560 (fun _ h9 => h9) rfl dX2_make_37 ?_
      refine lv_aload_n hx hb dX2_make_40 rfl (lv_at hl 0 rfl) ?_
      refine r_get M cdX2 hP hy 7 (by decide) q562 (fun _ h9 => h9) rfl dX2_make_41 ?_
      refine lv_iconst (v := 1) hx hb dX2_make_44 (by decide) ?_
      refine r_zast M hP h5 (vp_in_nI (by omega) (by decide)) rfl dX2_make_45 (fun H locs hP => ?_)
      rw [nI_clamp (by omega)] at hP
      obtain ⟨w3, ew3⟩ : ∃ z : mm, z = mset w2 a5 (56, eZ G 200 (upd f5 n 1)) := ⟨_, rfl⟩
      have hP := Px.re ew3 hP
      have kk2 : Kp (fun t => t ≠ 56) w2 w3 := by rw [ew3]; exact Kp.put h5 (fun z => z rfl)
      have h0 := kk2 _ _ _ h0 (by omega)
      have h1 := kk2 _ _ _ h1 (by omega)
      have h2 := kk2 _ _ _ h2 (by omega)
      have h3 := kk2 _ _ _ h3 (by omega)
      have h4 := kk2 _ _ _ h4 (by omega)
      have h6 := kk2 _ _ _ h6 (by omega)
      have hy := kk2 _ _ _ hy (by omega)
      have h5 : w3 a5 = some (56, eZ G 200 (upd f5 n 1)) := by rw [ew3]; exact mset_self ..
      have ka := ka.tr (kk2.mono (fun t ht => by unfold NT at ht; omega))
      refine lv_aload_n hx hb dX2_make_46 rfl (lv_at hl 0 rfl) ?_
      refine r_get M cdX2 hP hy 6 (by decide) q561 (fun _ h9 => h9) rfl dX2_make_47 ?_
      refine lv_aload_n hx hb dX2_make_50 rfl (lv_at hl 0 rfl) ?_
      refine r_get M cdX2 hP hy 7 (by decide) q562 (fun _ h9 => h9) rfl dX2_make_51 ?_
      refine lv_lconst (v := 0) hx hb dX2_make_54 (by decide) ?_
      refine r_last M hP h6 (vp_in_nI (by omega) (by decide)) dX2_make_55 (fun H locs hP => ?_)
      rw [nI_clamp (by omega)] at hP
      obtain ⟨w4, ew4⟩ : ∃ z : mm, z = mset w3 a6 (57, eJ G 200 (vp_updL f6 n 0)) := ⟨_, rfl⟩
      have hP := Px.re ew4 hP
      have kk3 : Kp (fun t => t ≠ 57) w3 w4 := by rw [ew4]; exact Kp.put h6 (fun z => z rfl)
      have h0 := kk3 _ _ _ h0 (by omega)
      have h1 := kk3 _ _ _ h1 (by omega)
      have h2 := kk3 _ _ _ h2 (by omega)
      have h3 := kk3 _ _ _ h3 (by omega)
      have h4 := kk3 _ _ _ h4 (by omega)
      have h5 := kk3 _ _ _ h5 (by omega)
      have hy := kk3 _ _ _ hy (by omega)
      have h6 : w4 a6 = some (57, eJ G 200 (vp_updL f6 n 0)) := by rw [ew4]; exact mset_self ..
      have ka := ka.tr (kk3.mono (fun t ht => by unfold NT at ht; omega))
      refine lv_aload_n hx hb dX2_make_56 rfl (lv_at hl 0 rfl) ?_
      refine lv_dup hx hb dX2_make_57 rfl ?_
      refine r_get M cdX2 hP hy 7 (by decide) q562 (fun _ h9 => h9) rfl dX2_make_58 ?_
      refine lv_iconst (v := 1) hx hb dX2_make_61 (by decide) ?_
      refine lv_iadd hx hb dX2_make_62 ?_
      rw [nI_1]
      refine r_put (v := .int (nI (n + 1))) M cdX2 hP hy 7 (by decide) q562 (fun _ h9 => h9) rfl rfl rfl (Nat.le_of_ble_eq_true rfl) dX2_make_63 (fun H locs hP => ?_)
      obtain ⟨w5, ew5⟩ : ∃ z : mm, z = mset w4 x (50, oM a0 a1 a2 a3 a4 a5 a6 (n + 1) 0 c0 c1 c2 c3 c4 c5 wy) := ⟨_, rfl⟩
      have hP := Px.re ew5 hP
      have kk4 : Kp (fun t => t ≠ 50) w4 w5 := by rw [ew5]; exact Kp.put hy (fun z => z rfl)
      have h0 := kk4 _ _ _ h0 (by omega)
      have h1 := kk4 _ _ _ h1 (by omega)
      have h2 := kk4 _ _ _ h2 (by omega)
      have h3 := kk4 _ _ _ h3 (by omega)
      have h4 := kk4 _ _ _ h4 (by omega)
      have h5 := kk4 _ _ _ h5 (by omega)
      have h6 := kk4 _ _ _ h6 (by omega)
      have hy : w5 x = some (50, oM a0 a1 a2 a3 a4 a5 a6 (n + 1) 0 c0 c1 c2 c3 c4 c5 wy) := by rw [ew5]; exact mset_self ..
      have ka := ka.tr (kk4.mono (fun t ht => by unfold NT at ht; omega))
      refine lv_aload_n hx hb dX2_make_66 rfl (lv_at hl 0 rfl) ?_
      refine r_get M cdX2 hP hy 7 (by decide) q562 (fun _ h9 => h9) rfl dX2_make_67 ?_
      have hA : fMake ((n, kd, th, ca), rw, (an, fl), (c0, c1, c2, c3, c4, c5)) (nI k) = (nI (n + 1), ((n + 1, va_up kd n (nI k), va_up th n true, va_up ca n 0), rw, (an, fl), (c0, c1, c2, c3, c4, c5))) := by simp only [fMake, ixo_in hk (show 8 < 2 ^ 31 by decide)]; exact if_neg h2h
      have g4 : ∀ i, i < n + 1 → upd f4 n (nI k) i = va_up kd n (nI k) i := fun i hi => by
        by_cases hin : i = n
        · rw [hin, pk_us, va_up_self]
        · rw [pk_un hin, va_up_ne _ _ hin, g4 i (by omega)]
      have g5 : ∀ i, i < n + 1 → upd f5 n 1 i = if va_up th n true i = true then 1 else 0 := fun i hi => by
        by_cases hin : i = n
        · rw [hin, pk_us, va_up_self, if_pos rfl]
        · rw [pk_un hin, va_up_ne _ _ hin, g5 i (by omega)]
      have g6 : ∀ i, i < n + 1 → vp_updL f6 n 0 i = lN (va_up ca n 0 i) := fun i hi => by
        by_cases hin : i = n
        · rw [hin, pk_uLs, va_up_self]
          rfl
        · rw [pk_uLn hin, va_up_ne _ _ hin, g6 i (by omega)]
      exact r_iret M hr hlk hP (by rw [hA]; exact ⟨rfl, ⟨wy, a0, a1, a2, a3, a4, a5, a6, 0, f0, f1, f2, f3, (upd f4 n (nI k)), (upd f5 n 1), (vp_updL f6 n 0), hy, ⟨h0, g0⟩, ⟨h1, g1⟩, ⟨h2, g2⟩, ⟨h3, g3⟩, ⟨h4, g4⟩, ⟨h5, g5⟩, ⟨h6, g6⟩⟩, ka⟩) dX2_make_70 (Nat.le_of_ble_eq_true rfl) (Nat.le_of_ble_eq_true rfl)
set_option maxHeartbeats 4000000 in
set_option maxRecDepth 100000 in
/-- MainframeDeskModel.drop(number) -/
theorem m_mdrop {l : Launch} {s0 : State} {D : va_G} {G ad : Nat → Nat} {w : mm} (E : Bs l s0 D G ad) {x : Nat} {n : Nat} {kd : Nat → Int32} {th : Nat → Bool} {ca : Nat → Nat} {rw : Nat → List Int64} {an : Nat → Int64} {fl : Nat → Nat} {c0 c1 c2 c3 c4 c5 : Int32} (h : MD G w x ((n, kd, th, ca), rw, (an, fl), (c0, c1, c2, c3, c4, c5))) (hn : n ≤ 200) (num : Int32) : Mt l yX2_drop cX2_drop 2 (some FieldType.boolean) (rmk 0 0 0 0) [.ref x, .int num] s0 D w (Qi s0 D (fun r w1 => r = (fDrop ((n, kd, th, ca), rw, (an, fl), (c0, c1, c2, c3, c4, c5)) num).1 ∧ MD G w1 x (fDrop ((n, kd, th, ca), rw, (an, fl), (c0, c1, c2, c3, c4, c5)) num).2 ∧ Kp NT w w1)) := by
  refine Met.go E (by decide +kernel) (Nat.le_of_ble_eq_true rfl) (fun p ev s m below meth c ls M hr hlk hnm hl hP => ?_)
  have hx := M.1.1
  have hb := M.1.2.1
  have hl : lv_has ls 2 [(0, .ref x), (1, .int num)] := hl
  obtain ⟨wy, a0, a1, a2, a3, a4, a5, a6, z, f0, f1, f2, f3, f4, f5, f6, hy, ⟨h0, g0⟩, ⟨h1, g1⟩, ⟨h2, g2⟩, ⟨h3, g3⟩, ⟨h4, g4⟩, ⟨h5, g5⟩, ⟨h6, g6⟩⟩ := h
  refine lv_aload_n hx hb dX2_drop_0 rfl (lv_at hl 0 rfl) ?_
  refine lv_iconst (v := 0) hx hb dX2_drop_1 (by decide) ?_
  refine r_put (v := .int 0) M cdX2 hP hy 8 (by decide) q563 (fun _ h9 => h9) rfl rfl rfl (Nat.le_of_ble_eq_true rfl) dX2_drop_2 (fun H locs hP => ?_)
  obtain ⟨w1, ew1⟩ : ∃ z : mm, z = mset w x (50, oM a0 a1 a2 a3 a4 a5 a6 n 0 c0 c1 c2 c3 c4 c5 wy) := ⟨_, rfl⟩
  have hP := Px.re ew1 hP
  have kk0 : Kp (fun t => t ≠ 50) w w1 := by rw [ew1]; exact Kp.put hy (fun z => z rfl)
  have h0 := kk0 _ _ _ h0 (by omega)
  have h1 := kk0 _ _ _ h1 (by omega)
  have h2 := kk0 _ _ _ h2 (by omega)
  have h3 := kk0 _ _ _ h3 (by omega)
  have h4 := kk0 _ _ _ h4 (by omega)
  have h5 := kk0 _ _ _ h5 (by omega)
  have h6 := kk0 _ _ _ h6 (by omega)
  have hy : w1 x = some (50, oM a0 a1 a2 a3 a4 a5 a6 n 0 c0 c1 c2 c3 c4 c5 wy) := by rw [ew1]; exact mset_self ..
  have ka : Kp NT w w1 := kk0.mono (fun t ht => by unfold NT at ht; omega)
  refine lv_iload_n hx hb dX2_drop_5 rfl (lv_at hl 1 rfl) ?_
  refine lv_iconst (v := 1) hx hb dX2_drop_6 (by decide) ?_
  rcases ixt_cases n (by omega) num with ⟨b0, hi⟩ | ⟨b0, b1, hi⟩ | ⟨i, hin, rfl, hi⟩
  · refine lv_icmp_lt (tgt := 29) hx hb dX2_drop_7 (by decide) (fun _ => ?_) (fun c9 => absurd (b0) c9)
    refine lv_iconst (v := 0) hx hb dX2_drop_29 (by decide) ?_
    have hA : fDrop ((n, kd, th, ca), rw, (an, fl), (c0, c1, c2, c3, c4, c5)) num = (0, ((n, kd, th, ca), rw, (an, fl), (c0, c1, c2, c3, c4, c5))) := by simp only [fDrop, hi]
    exact r_zret M hr hlk hP rfl (by rw [hA]; exact ⟨rfl, ⟨wy, a0, a1, a2, a3, a4, a5, a6, 0, f0, f1, f2, f3, f4, f5, f6, hy, ⟨h0, g0⟩, ⟨h1, g1⟩, ⟨h2, g2⟩, ⟨h3, g3⟩, ⟨h4, g4⟩, ⟨h5, g5⟩, ⟨h6, g6⟩⟩, ka⟩) dX2_drop_30 (Nat.le_of_ble_eq_true rfl) (Nat.le_of_ble_eq_true rfl)
  · refine lv_icmp_lt (tgt := 29) hx hb dX2_drop_7 (by decide) (fun c9 => absurd c9 (b0)) (fun _ => ?_)
    refine lv_iload_n hx hb dX2_drop_10 rfl (lv_at hl 1 rfl) ?_
    refine lv_aload_n hx hb dX2_drop_11 rfl (lv_at hl 0 rfl) ?_
    refine r_get M cdX2 hP hy 7 (by decide) q562 (fun _ h9 => h9) rfl dX2_drop_12 ?_
    refine lv_icmp_gt (tgt := 29) hx hb dX2_drop_15 (by decide) (fun _ => ?_) (fun c9 => absurd (b1) c9)
    refine lv_iconst (v := 0) hx hb dX2_drop_29 (by decide) ?_
    have hA : fDrop ((n, kd, th, ca), rw, (an, fl), (c0, c1, c2, c3, c4, c5)) num = (0, ((n, kd, th, ca), rw, (an, fl), (c0, c1, c2, c3, c4, c5))) := by simp only [fDrop, hi]
    exact r_zret M hr hlk hP rfl (by rw [hA]; exact ⟨rfl, ⟨wy, a0, a1, a2, a3, a4, a5, a6, 0, f0, f1, f2, f3, f4, f5, f6, hy, ⟨h0, g0⟩, ⟨h1, g1⟩, ⟨h2, g2⟩, ⟨h3, g3⟩, ⟨h4, g4⟩, ⟨h5, g5⟩, ⟨h6, g6⟩⟩, ka⟩) dX2_drop_30 (Nat.le_of_ble_eq_true rfl) (Nat.le_of_ble_eq_true rfl)
  · refine lv_icmp_lt (tgt := 29) hx hb dX2_drop_7 (by decide) (fun c9 => absurd c9 (nI_nlt (b := 1) (by omega) (by omega))) (fun _ => ?_)
    refine lv_iload_n hx hb dX2_drop_10 rfl (lv_at hl 1 rfl) ?_
    refine lv_aload_n hx hb dX2_drop_11 rfl (lv_at hl 0 rfl) ?_
    refine r_get M cdX2 hP hy 7 (by decide) q562 (fun _ h9 => h9) rfl dX2_drop_12 ?_
    refine lv_icmp_gt (tgt := 29) hx hb dX2_drop_15 (by decide) (fun c9 => absurd c9 (nI_nlt (by omega) (by omega))) (fun _ => ?_)
    refine lv_aload_n hx hb dX2_drop_18 rfl (lv_at hl 0 rfl) ?_
    refine r_get M cdX2 hP hy 5 (by decide) q560 (fun _ h9 => h9) rfl dX2_drop_19 ?_
    refine lv_iload_n hx hb dX2_drop_22 rfl (lv_at hl 1 rfl) ?_
    refine lv_iconst (v := 1) hx hb dX2_drop_23 (by decide) ?_
    refine lv_isub hx hb dX2_drop_24 ?_
    rw [nI_pred]
    refine r_zald M hP h5 (vp_in_nI (by omega) (by decide)) dX2_drop_25 ?_
    rw [nI_clamp (by omega), g5 i hin]
    by_cases hti : th i = true
    · rw [if_pos hti]
      refine lv_if_ne (tgt := 31) hx hb dX2_drop_26 (by decide) (fun _ => ?_) (fun c9 => absurd c9 (h10))
      refine lv_aload_n hx hb dX2_drop_31 rfl (lv_at hl 0 rfl) ?_
      refine r_get M cdX2 hP hy 5 (by decide) q560 (fun _ h9 => h9) rfl dX2_drop_32 ?_
      refine lv_iload_n hx hb dX2_drop_35 rfl (lv_at hl 1 rfl) ?_
      refine lv_iconst (v := 1) hx hb dX2_drop_36 (by decide) ?_
      refine lv_isub hx hb dX2_drop_37 ?_
      refine lv_iconst (v := 0) hx hb dX2_drop_38 (by decide) ?_
      rw [nI_pred]
      refine r_zast M hP h5 (vp_in_nI (by omega) (by decide)) rfl dX2_drop_39 (fun H locs hP => ?_)
      rw [nI_clamp (by omega)] at hP
      obtain ⟨w2, ew2⟩ : ∃ z : mm, z = mset w1 a5 (56, eZ G 200 (upd f5 i 0)) := ⟨_, rfl⟩
      have hP := Px.re ew2 hP
      have kk1 : Kp (fun t => t ≠ 56) w1 w2 := by rw [ew2]; exact Kp.put h5 (fun z => z rfl)
      have h0 := kk1 _ _ _ h0 (by omega)
      have h1 := kk1 _ _ _ h1 (by omega)
      have h2 := kk1 _ _ _ h2 (by omega)
      have h3 := kk1 _ _ _ h3 (by omega)
      have h4 := kk1 _ _ _ h4 (by omega)
      have h6 := kk1 _ _ _ h6 (by omega)
      have hy := kk1 _ _ _ hy (by omega)
      have h5 : w2 a5 = some (56, eZ G 200 (upd f5 i 0)) := by rw [ew2]; exact mset_self ..
      have ka := ka.tr (kk1.mono (fun t ht => by unfold NT at ht; omega))
      refine lv_iconst (v := 1) hx hb dX2_drop_40 (by decide) ?_
      have hA : fDrop ((n, kd, th, ca), rw, (an, fl), (c0, c1, c2, c3, c4, c5)) (nI (i + 1)) = (1, ((n, kd, va_up th i false, ca), rw, (an, fl), (c0, c1, c2, c3, c4, c5))) := by simp only [fDrop, hi]; exact if_pos hti
      have g5 : ∀ j, j < n → upd f5 i 0 j = if va_up th i false j = true then 1 else 0 := fun j hj => by
        by_cases hji : j = i
        · rw [hji, pk_us, va_up_self, if_neg (by decide)]
        · rw [pk_un hji, va_up_ne _ _ hji, g5 j hj]
      exact r_zret M hr hlk hP rfl (by rw [hA]; exact ⟨rfl, ⟨wy, a0, a1, a2, a3, a4, a5, a6, 0, f0, f1, f2, f3, f4, (upd f5 i 0), f6, hy, ⟨h0, g0⟩, ⟨h1, g1⟩, ⟨h2, g2⟩, ⟨h3, g3⟩, ⟨h4, g4⟩, ⟨h5, g5⟩, ⟨h6, g6⟩⟩, ka⟩) dX2_drop_41 (Nat.le_of_ble_eq_true rfl) (Nat.le_of_ble_eq_true rfl)
    · rw [if_neg hti]
      refine lv_if_ne (tgt := 31) hx hb dX2_drop_26 (by decide) (fun c9 => absurd (rfl) c9) (fun _ => ?_)
      refine lv_iconst (v := 0) hx hb dX2_drop_29 (by decide) ?_
      have hA : fDrop ((n, kd, th, ca), rw, (an, fl), (c0, c1, c2, c3, c4, c5)) (nI (i + 1)) = (0, ((n, kd, th, ca), rw, (an, fl), (c0, c1, c2, c3, c4, c5))) := by simp only [fDrop, hi]; exact if_neg hti
      exact r_zret M hr hlk hP rfl (by rw [hA]; exact ⟨rfl, ⟨wy, a0, a1, a2, a3, a4, a5, a6, 0, f0, f1, f2, f3, f4, f5, f6, hy, ⟨h0, g0⟩, ⟨h1, g1⟩, ⟨h2, g2⟩, ⟨h3, g3⟩, ⟨h4, g4⟩, ⟨h5, g5⟩, ⟨h6, g6⟩⟩, ka⟩) dX2_drop_30 (Nat.le_of_ble_eq_true rfl) (Nat.le_of_ble_eq_true rfl)
set_option maxHeartbeats 4000000 in
set_option maxRecDepth 100000 in
/-- MainframeDeskModel.numbers(kind) -/
theorem m_mnumbers {l : Launch} {s0 : State} {D : va_G} {G ad : Nat → Nat} {w : mm} (E : Bs l s0 D G ad) {x : Nat} {n : Nat} {kd : Nat → Int32} {th : Nat → Bool} {ca : Nat → Nat} {rw : Nat → List Int64} {an : Nat → Int64} {fl : Nat → Nat} {c0 c1 c2 c3 c4 c5 : Int32} (h : MD G w x ((n, kd, th, ca), rw, (an, fl), (c0, c1, c2, c3, c4, c5))) (hn : n ≤ 200) (q : Int32) : Mt l yX2_numbers cX2_numbers 4 (some FieldType.int) (rmk 1 0 0 30) [.ref x, .int q] s0 D w (Qi s0 D (fun r w1 => r = fNumbers ((n, kd, th, ca), rw, (an, fl), (c0, c1, c2, c3, c4, c5)) q ∧ MD G w1 x ((n, kd, th, ca), rw, (an, fl), (c0, c1, c2, c3, c4, c5)) ∧ Kp NT w w1)) := by
  refine Met.go E (by decide +kernel) (Nat.le_of_ble_eq_true rfl) (fun p ev s m below meth c ls M hr hlk hnm hl hP => ?_)
  have hx := M.1.1
  have hb := M.1.2.1
  have hl : lv_has ls 4 [(0, .ref x), (1, .int q)] := hl
  obtain ⟨wy, a0, a1, a2, a3, a4, a5, a6, z, f0, f1, f2, f3, f4, f5, f6, hy, ⟨h0, g0⟩, ⟨h1, g1⟩, ⟨h2, g2⟩, ⟨h3, g3⟩, ⟨h4, g4⟩, ⟨h5, g5⟩, ⟨h6, g6⟩⟩ := h
  refine lv_aload_n hx hb dX2_numbers_0 rfl (lv_at hl 0 rfl) ?_
  refine lv_iconst (v := 0) hx hb dX2_numbers_1 (by decide) ?_
  refine r_put (v := .int 0) M cdX2 hP hy 8 (by decide) q563 (fun _ h9 => h9) rfl rfl rfl (Nat.le_of_ble_eq_true rfl) dX2_numbers_2 (fun H locs hP => ?_)
  obtain ⟨w1, ew1⟩ : ∃ z : mm, z = mset w x (50, oM a0 a1 a2 a3 a4 a5 a6 n 0 c0 c1 c2 c3 c4 c5 wy) := ⟨_, rfl⟩
  have hP := Px.re ew1 hP
  have kk0 : Kp (fun t => t ≠ 50) w w1 := by rw [ew1]; exact Kp.put hy (fun z => z rfl)
  have h0 := kk0 _ _ _ h0 (by omega)
  have h1 := kk0 _ _ _ h1 (by omega)
  have h2 := kk0 _ _ _ h2 (by omega)
  have h3 := kk0 _ _ _ h3 (by omega)
  have h4 := kk0 _ _ _ h4 (by omega)
  have h5 := kk0 _ _ _ h5 (by omega)
  have h6 := kk0 _ _ _ h6 (by omega)
  have hy : w1 x = some (50, oM a0 a1 a2 a3 a4 a5 a6 n 0 c0 c1 c2 c3 c4 c5 wy) := by rw [ew1]; exact mset_self ..
  have ka : Kp NT w w1 := kk0.mono (fun t ht => by unfold NT at ht; omega)
  refine lv_iload_n hx hb dX2_numbers_5 rfl (lv_at hl 1 rfl) ?_
  refine lv_bipush (v := 8) hx hb dX2_numbers_6 (by decide) ?_
  refine c_i (r_runS 2 M (m_below E q 8 (by decide)) hP (lw_S q610 q611 q21 q612) (by decide +kernel) rfl ⟨Nat.le_of_ble_eq_true rfl, Nat.le_of_ble_eq_true rfl⟩ hl.1 rfl (Nat.le_of_ble_eq_true rfl) dX2_numbers_8 ⟨Nat.le_of_ble_eq_true rfl, Nat.le_of_ble_eq_true rfl⟩) hP (fun r w9 H locs hq hP => ?_)
  obtain ⟨er, ew⟩ := hq
  rw [ew] at hP
  rw [er]
  rcases pk_ix q (n := 8) (by decide) with h | h | ⟨k, hk, rfl⟩
  · rw [ixo_neg h]
    refine lv_if_ne (tgt := 16) hx hb dX2_numbers_11 (by decide) (fun c9 => absurd (rfl) c9) (fun _ => ?_)
    refine lv_iconst (v := (-1)) hx hb dX2_numbers_14 (by decide) ?_
    exact r_iret M hr hlk hP ⟨by simp only [fNumbers, ixo_neg h], ⟨wy, a0, a1, a2, a3, a4, a5, a6, 0, f0, f1, f2, f3, f4, f5, f6, hy, ⟨h0, g0⟩, ⟨h1, g1⟩, ⟨h2, g2⟩, ⟨h3, g3⟩, ⟨h4, g4⟩, ⟨h5, g5⟩, ⟨h6, g6⟩⟩, ka⟩ dX2_numbers_15 (Nat.le_of_ble_eq_true rfl) (Nat.le_of_ble_eq_true rfl)
  · rw [ixo_ge h]
    refine lv_if_ne (tgt := 16) hx hb dX2_numbers_11 (by decide) (fun c9 => absurd (rfl) c9) (fun _ => ?_)
    refine lv_iconst (v := (-1)) hx hb dX2_numbers_14 (by decide) ?_
    exact r_iret M hr hlk hP ⟨by simp only [fNumbers, ixo_ge h], ⟨wy, a0, a1, a2, a3, a4, a5, a6, 0, f0, f1, f2, f3, f4, f5, f6, hy, ⟨h0, g0⟩, ⟨h1, g1⟩, ⟨h2, g2⟩, ⟨h3, g3⟩, ⟨h4, g4⟩, ⟨h5, g5⟩, ⟨h6, g6⟩⟩, ka⟩ dX2_numbers_15 (Nat.le_of_ble_eq_true rfl) (Nat.le_of_ble_eq_true rfl)
  · rw [ixo_in hk (show 8 < 2 ^ 31 by decide)]
    refine lv_if_ne (tgt := 16) hx hb dX2_numbers_11 (by decide) (fun _ => ?_) (fun c9 => absurd c9 (h10))
    refine lv_iconst (v := 0) hx hb dX2_numbers_16 (by decide) ?_
    refine lv_istore_n (lv' := [(2, .int 0), (0, .ref x), (1, .int (nI k))]) hx hb dX2_numbers_17 rfl hl (by decide) rfl (fun ls hl => ?_)
    refine lv_iconst (v := 0) hx hb dX2_numbers_18 (by decide) ?_
    refine lv_istore_n (lv' := [(3, .int (nI 0)), (2, .int 0), (0, .ref x), (1, .int (nI k))]) hx hb dX2_numbers_19 rfl hl (by decide) rfl (fun ls hl => ?_)
    have loop : ∀ (j i : Nat) (ls : Array Slot), i + j = n → lv_has ls 4 [(3, .int (nI i)), (2, .int (cnt kd th (nI k) i)), (0, .ref x), (1, .int (nI k))] → W p l ev (rmk 1 0 0 30) s m #[Value.ref x, Value.int (nI k)] below meth c H locs 0 0 (MQ below (Qi s0 D (fun r w1 => r = fNumbers ((n, kd, th, ca), rw, (an, fl), (c0, c1, c2, c3, c4, c5)) (nI k) ∧ MD G w1 x ((n, kd, th, ca), rw, (an, fl), (c0, c1, c2, c3, c4, c5)) ∧ Kp NT w w1)) #[Value.ref x, Value.int (nI k)] s 0 0 (Fr s0)) (F0 m 20 ls []) := by
      intro j
      induction j with
      | zero =>
        intro i ls hij hl
        refine lv_iload_n hx hb dX2_numbers_20 rfl (lv_at hl 0 rfl) ?_
        refine lv_aload_n hx hb dX2_numbers_21 rfl (lv_at hl 2 rfl) ?_
        refine r_get M cdX2 hP hy 7 (by decide) q562 (fun _ h9 => h9) rfl dX2_numbers_22 ?_
        have hi : i = n := by omega
        refine lv_icmp_ge (tgt := 56) hx hb dX2_numbers_25 (by decide) (fun _ => ?_) (fun c9 => absurd (by rw [hi]; exact Int32.le_refl _) c9)
        refine lv_iload_n hx hb dX2_numbers_56 rfl (lv_at hl 1 rfl) ?_
        rw [hi]
        exact r_iret M hr hlk hP ⟨by simp only [fNumbers, ixo_in hk (show 8 < 2 ^ 31 by decide)], ⟨wy, a0, a1, a2, a3, a4, a5, a6, 0, f0, f1, f2, f3, f4, f5, f6, hy, ⟨h0, g0⟩, ⟨h1, g1⟩, ⟨h2, g2⟩, ⟨h3, g3⟩, ⟨h4, g4⟩, ⟨h5, g5⟩, ⟨h6, g6⟩⟩, ka⟩ dX2_numbers_57 (Nat.le_of_ble_eq_true rfl) (Nat.le_of_ble_eq_true rfl)
      | succ j ih =>
        intro i ls hij hl
        refine lv_iload_n hx hb dX2_numbers_20 rfl (lv_at hl 0 rfl) ?_
        refine lv_aload_n hx hb dX2_numbers_21 rfl (lv_at hl 2 rfl) ?_
        refine r_get M cdX2 hP hy 7 (by decide) q562 (fun _ h9 => h9) rfl dX2_numbers_22 ?_
        have hi : i < n := by omega
        refine lv_icmp_ge (tgt := 56) hx hb dX2_numbers_25 (by decide) (fun c9 => absurd c9 (nI_ge hi (by omega))) (fun _ => ?_)
        refine lv_aload_n hx hb dX2_numbers_28 rfl (lv_at hl 2 rfl) ?_
        refine r_get M cdX2 hP hy 5 (by decide) q560 (fun _ h9 => h9) rfl dX2_numbers_29 ?_
        refine lv_iload_n hx hb dX2_numbers_32 rfl (lv_at hl 0 rfl) ?_
        refine r_zald M hP h5 (vp_in_nI (by omega) (by decide)) dX2_numbers_33 ?_
        rw [nI_clamp (by omega), g5 i hi]
        by_cases hti : th i = true
        · rw [if_pos hti]
          refine lv_if_eq (tgt := 50) hx hb dX2_numbers_34 (by decide) (fun c9 => absurd c9 (h10)) (fun _ => ?_)
          refine lv_aload_n hx hb dX2_numbers_37 rfl (lv_at hl 2 rfl) ?_
          refine r_get M cdX2 hP hy 4 (by decide) q559 (fun _ h9 => h9) rfl dX2_numbers_38 ?_
          refine lv_iload_n hx hb dX2_numbers_41 rfl (lv_at hl 0 rfl) ?_
          refine r_iald M hP h4 (vp_in_nI (by omega) (by decide)) dX2_numbers_42 ?_
          rw [nI_clamp (by omega), g4 i hi]
          refine lv_iload_n hx hb dX2_numbers_43 rfl (lv_at hl 3 rfl) ?_
          by_cases hkd : kd i = nI k
          · refine lv_icmp_ne (tgt := 50) hx hb dX2_numbers_44 (by decide) (fun c9 => absurd (hkd) c9) (fun _ => ?_)
            refine lv_iinc (v := (cnt kd th (nI k) (i + 1))) (lv' := [(2, .int (cnt kd th (nI k) (i + 1))), (3, .int (nI i)), (0, .ref x), (1, .int (nI k))]) hx hb dX2_numbers_47 hl (k := 1) rfl (by show _ = (if kd i = nI k ∧ th i = true then _ else _); rw [if_pos ⟨hkd, hti⟩]; rfl) (by decide) rfl (fun ls hl => ?_)
            refine lv_iinc (v := (nI (i + 1))) (lv' := [(3, .int (nI (i + 1))), (2, .int (cnt kd th (nI k) (i + 1))), (0, .ref x), (1, .int (nI k))]) hx hb dX2_numbers_50 hl (k := 1) rfl (nI_1 i) (by decide) rfl (fun ls hl => ?_)
            refine lv_goto (tgt := 20) hx hb dX2_numbers_53 (by decide) ?_
            have hl := lv_sub (l' := [(3, .int (nI (i + 1))), (2, .int (cnt kd th (nI k) (i + 1))), (0, .ref x), (1, .int (nI k))]) hl [0, 1, 2, 3] rfl
            exact ih (i + 1) ls (by omega) hl
          · refine lv_icmp_ne (tgt := 50) hx hb dX2_numbers_44 (by decide) (fun _ => ?_) (fun c9 => absurd c9 (hkd))
            have hc : cnt kd th (nI k) i = cnt kd th (nI k) (i + 1) := by show _ = (if kd i = nI k ∧ th i = true then _ else _); rw [if_neg (fun z => hkd z.1)]
            rw [hc] at hl
            refine lv_iinc (v := (nI (i + 1))) (lv' := [(3, .int (nI (i + 1))), (2, .int (cnt kd th (nI k) (i + 1))), (0, .ref x), (1, .int (nI k))]) hx hb dX2_numbers_50 hl (k := 0) rfl (nI_1 i) (by decide) rfl (fun ls hl => ?_)
            refine lv_goto (tgt := 20) hx hb dX2_numbers_53 (by decide) ?_
            have hl := lv_sub (l' := [(3, .int (nI (i + 1))), (2, .int (cnt kd th (nI k) (i + 1))), (0, .ref x), (1, .int (nI k))]) hl [0, 1, 2, 3] rfl
            exact ih (i + 1) ls (by omega) hl
        · rw [if_neg hti]
          refine lv_if_eq (tgt := 50) hx hb dX2_numbers_34 (by decide) (fun _ => ?_) (fun c9 => absurd (rfl) c9)
          have hc : cnt kd th (nI k) i = cnt kd th (nI k) (i + 1) := by show _ = (if kd i = nI k ∧ th i = true then _ else _); rw [if_neg (fun z => hti z.2)]
          rw [hc] at hl
          refine lv_iinc (v := (nI (i + 1))) (lv' := [(3, .int (nI (i + 1))), (2, .int (cnt kd th (nI k) (i + 1))), (0, .ref x), (1, .int (nI k))]) hx hb dX2_numbers_50 hl (k := 0) rfl (nI_1 i) (by decide) rfl (fun ls hl => ?_)
          refine lv_goto (tgt := 20) hx hb dX2_numbers_53 (by decide) ?_
          have hl := lv_sub (l' := [(3, .int (nI (i + 1))), (2, .int (cnt kd th (nI k) (i + 1))), (0, .ref x), (1, .int (nI k))]) hl [0, 1, 2, 3] rfl
          exact ih (i + 1) ls (by omega) hl
    have hl := lv_sub (l' := [(3, .int (nI 0)), (2, .int 0), (0, .ref x), (1, .int (nI k))]) hl [0, 1, 2, 3] rfl
    exact loop n 0 ls (by omega) hl
end
section
/-! ===== the model: reckoned, again, call, its constructor ===== -/
/-- the model's way -/
def wayA (A : Ab) (q num : Int32) (a : Int64) : Int32 := if fRef A q num a = 0 then (if A.2.2.1.2 ((ixo 32 q).getD 0) = 0 then 0 else 1) else 2
theorem wayA_no {A : Ab} {q num : Int32} {a : Int64} (h : ¬ fRef A q num a = 0) : wayA A q num a = 2 := if_neg h
theorem wayA_0 {A : Ab} {k : Nat} {num : Int32} {a : Int64} (h : fRef A (nI k) num a = 0) (hk : k < 32) (hf : A.2.2.1.2 k = 0) : wayA A (nI k) num a = 0 := by
  unfold wayA
  rw [if_pos h, ixo_in hk (by decide)]
  exact if_pos hf
theorem wayA_1 {A : Ab} {k : Nat} {num : Int32} {a : Int64} (h : fRef A (nI k) num a = 0) (hk : k < 32) (hf : ¬ A.2.2.1.2 k = 0) : wayA A (nI k) num a = 1 := by
  unfold wayA
  rw [if_pos h, ixo_in hk (by decide)]
  exact if_neg hf
theorem m10 {c : Nat} (h : c ≤ 6) : (-10 - nI c).toInt64 = -10 - (nI c).toInt64 := by
  have hc : c = 0 ∨ c = 1 ∨ c = 2 ∨ c = 3 ∨ c = 4 ∨ c = 5 ∨ c = 6 := by omega
  rcases hc with rfl | rfl | rfl | rfl | rfl | rfl | rfl <;> decide +kernel
theorem nI_m1 {c : Nat} (h : c < 2 ^ 30) : ¬ nI c = -1 := fun z => by
  have := congrArg Int32.toInt z
  rw [nI_toInt (by omega), show (-1 : Int32).toInt = -1 by decide +kernel] at this
  omega
theorem lN_s {c : Nat} : lN c + 1 = lN (c + 1) := (Int64.ofNat_add c 1).symm
/-- a call that isn't refused -/
theorem ref_in {n : Nat} {kd : Nat → Int32} {th : Nat → Bool} {ca : Nat → Nat} {rw : Nat → List Int64} {pp : (Nat → Int64) × (Nat → Nat)} {cs : Int32 × Int32 × Int32 × Int32 × Int32 × Int32} {q num : Int32} {a : Int64} (hn : n ≤ 200) (h : fRef ((n, kd, th, ca), rw, pp, cs) q num a = 0) : ∃ k i : Nat, k < 32 ∧ i < n ∧ q = nI k ∧ num = nI (i + 1) ∧ ixt n num = some i := by
  rcases pk_ix q (n := 32) (by decide) with h1 | h1 | ⟨k, hk, rfl⟩
  · rw [fRef_q (ixo_neg h1)] at h; exact absurd h (by decide)
  · rw [fRef_q (ixo_ge h1)] at h; exact absurd h (by decide)
  · rcases ixt_cases n (by omega) num with ⟨-, hi⟩ | ⟨-, -, hi⟩ | ⟨i, hin, hnum, hi⟩
    · rw [fRef_none hi] at h; exact absurd h (by decide)
    · rw [fRef_none hi] at h; exact absurd h (by decide)
    · exact ⟨k, i, hk, hin, rfl, hnum, hi⟩

set_option maxHeartbeats 4000000 in
set_option maxRecDepth 100000 in
/-- MainframeDeskModel.reckoned(call, number, a) -/
theorem m_mreck {l : Launch} {s0 : State} {D : va_G} {G ad : Nat → Nat} {w : mm} (E : Bs l s0 D G ad) {n : Nat} {kd : Nat → Int32} {th : Nat → Bool} {ca : Nat → Nat} {rw : Nat → List Int64} {an : Nat → Int64} {fl : Nat → Nat} {c0 c1 c2 c3 c4 c5 : Int32} {x a0 a1 a2 a3 a4 a5 a6 : Nat} {zz wy : Int32} {f0 : Nat → Int64} {f1 : Nat → Int32} {f2 : Nat → Int64} {f3 f4 f5 : Nat → Int32} {f6 : Nat → Int64} (hy : w x = some (50, oM a0 a1 a2 a3 a4 a5 a6 n zz c0 c1 c2 c3 c4 c5 wy)) (h0 : w a0 = some (51, eJ G 4 f0)) (g0 : ∀ k, k < 4 → f0 k = vsum (rw k)) (h1 : w a1 = some (52, eI G 4 f1)) (g1 : ∀ k, k < 4 → f1 k = nI (rw k).length) (h2 : w a2 = some (53, eJ G 32 f2)) (g2 : ∀ k, k < 32 → f2 k = an k) (h3 : w a3 = some (54, eI G 32 f3)) (g3 : ∀ k, k < 32 → f3 k = nI (fl k)) (h4 : w a4 = some (55, eI G 200 f4)) (g4 : ∀ k, k < n → f4 k = kd k) (h5 : w a5 = some (56, eZ G 200 f5)) (g5 : ∀ k, k < n → f5 k = if th k = true then 1 else 0) (h6 : w a6 = some (57, eJ G 200 f6)) (g6 : ∀ k, k < n → f6 k = lN (ca k)) (hn : n ≤ 200) (hlen : ∀ k, (rw k).length ≤ 50) (hfl : ∀ k, fl k ≤ 6) (hca : ∀ i, ca i < 2 ^ 31) (q num : Int32) (b : Int64) : Mt l yX2_reckoned cX2_reckoned 7 (some FieldType.long) (rmk 2 0 0 60) [.ref x, .int q, .int num, .long b] s0 D w (Ql s0 D (fun r w1 => r = fAgain ((n, kd, th, ca), rw, (an, fl), (c0, c1, c2, c3, c4, c5)) q num b ∧ w1 = mset w x (50, oM a0 a1 a2 a3 a4 a5 a6 n zz c0 c1 c2 c3 c4 c5 (wayA ((n, kd, th, ca), rw, (an, fl), (c0, c1, c2, c3, c4, c5)) q num b)))) := by
  refine Met.go E (by decide +kernel) (Nat.le_of_ble_eq_true rfl) (fun p ev s m below meth c ls M hr hlk hnm hl hP => ?_)
  have hx := M.1.1
  have hb := M.1.2.1
  have hl : lv_has ls 7 [(0, .ref x), (1, .int q), (2, .int num), (3, .long b)] := hl
  refine lv_aload_n hx hb dX2_reckoned_0 rfl (lv_at hl 0 rfl) ?_
  refine lv_iload_n hx hb dX2_reckoned_1 rfl (lv_at hl 1 rfl) ?_
  refine lv_iload_n hx hb dX2_reckoned_2 rfl (lv_at hl 2 rfl) ?_
  refine lv_lload_n hx hb dX2_reckoned_3 rfl (lv_at hl 3 rfl) ?_
  refine c_i (r_runV 3 M (m_mref (ca := ca) (an := an) (fl := fl) (f0 := f0) (f2 := f2) (f3 := f3) (f6 := f6) E hy h1 g1 h4 g4 h5 g5 hn hlen q num b) hP (Rc.of cdX2 hy) (lw_V q633 q635 qs10 q21 q636) (by decide +kernel) rfl ⟨Nat.le_of_ble_eq_true rfl, Nat.le_of_ble_eq_true rfl⟩ hl.1 rfl (Nat.le_of_ble_eq_true rfl) dX2_reckoned_4 ⟨Nat.le_of_ble_eq_true rfl, Nat.le_of_ble_eq_true rfl⟩) hP (fun r w9 H locs hq hP => ?_)
  obtain ⟨er, ew⟩ := hq
  rw [ew] at hP
  rw [er]
  obtain ⟨rv, hf⟩ : ∃ z, fRef ((n, kd, th, ca), rw, (an, fl), (c0, c1, c2, c3, c4, c5)) q num b = z := ⟨_, rfl⟩
  rw [hf]
  refine lv_istore (lv' := [(5, .int rv), (0, .ref x), (1, .int q), (2, .int num), (3, .long b)]) hx hb dX2_reckoned_7 hl (by decide) rfl (fun ls hl => ?_)
  refine lv_aload_n hx hb dX2_reckoned_9 rfl (lv_at hl 1 rfl) ?_
  refine lv_iload hx hb dX2_reckoned_10 (lv_at hl 0 rfl) ?_
  by_cases hz : rv = 0
  · subst hz
    obtain ⟨k, i, hk, hin, rfl, rfl, hi⟩ := ref_in hn hf
    refine lv_if_eq (tgt := 19) hx hb dX2_reckoned_12 (by decide) (fun _ => ?_) (fun c9 => absurd (rfl) c9)
    refine lv_aload_n hx hb dX2_reckoned_19 rfl (lv_at hl 1 rfl) ?_
    refine r_get M cdX2 hP hy 3 (by decide) q558 (fun _ h9 => h9) rfl dX2_reckoned_20 ?_
    refine lv_iload_n hx hb dX2_reckoned_23 rfl (lv_at hl 2 rfl) ?_
    refine r_iald M hP h3 (vp_in_nI hk (by decide)) dX2_reckoned_24 ?_
    rw [nI_clamp (by omega), g3 k hk]
    have hk6 := hfl k
    by_cases hf0 : fl k = 0
    · refine lv_if_eq (tgt := 32) hx hb dX2_reckoned_25 (by decide) (fun _ => ?_) (fun c9 => absurd (by rw [hf0]; rfl) c9)
      refine lv_iconst (v := 0) hx hb dX2_reckoned_32 (by decide) ?_
      refine r_put (v := .int 0) M cdX2 hP hy 15 (by decide) q570 (fun _ h9 => h9) rfl rfl rfl (Nat.le_of_ble_eq_true rfl) dX2_reckoned_33 (fun H locs hP => ?_)
      obtain ⟨w1, ew1⟩ : ∃ z : mm, z = mset w x (50, oM a0 a1 a2 a3 a4 a5 a6 n zz c0 c1 c2 c3 c4 c5 0) := ⟨_, rfl⟩
      have hP := Px.re ew1 hP
      have kk0 : Kp (fun t => t ≠ 50) w w1 := by rw [ew1]; exact Kp.put hy (fun z => z rfl)
      have h0 := kk0 _ _ _ h0 (by omega)
      have h1 := kk0 _ _ _ h1 (by omega)
      have h2 := kk0 _ _ _ h2 (by omega)
      have h3 := kk0 _ _ _ h3 (by omega)
      have h4 := kk0 _ _ _ h4 (by omega)
      have h5 := kk0 _ _ _ h5 (by omega)
      have h6 := kk0 _ _ _ h6 (by omega)
      have hy : w1 x = some (50, oM a0 a1 a2 a3 a4 a5 a6 n zz c0 c1 c2 c3 c4 c5 0) := by rw [ew1]; exact mset_self ..
      have ka : Kp NT w w1 := kk0.mono (fun t ht => by unfold NT at ht; omega)
      refine lv_aload_n hx hb dX2_reckoned_36 rfl (lv_at hl 1 rfl) ?_
      refine r_get M cdX2 hP hy 15 (by decide) q570 (fun _ h9 => h9) rfl dX2_reckoned_37 ?_
      refine lv_iconst (v := 2) hx hb dX2_reckoned_40 (by decide) ?_
      refine lv_icmp_ne (tgt := 48) hx hb dX2_reckoned_41 (by decide) (fun _ => ?_) (fun c9 => absurd c9 (by decide))
      refine lv_aload_n hx hb dX2_reckoned_48 rfl (lv_at hl 1 rfl) ?_
      refine r_get M cdX2 hP hy 15 (by decide) q570 (fun _ h9 => h9) rfl dX2_reckoned_49 ?_
      refine lv_iconst (v := 1) hx hb dX2_reckoned_52 (by decide) ?_
      refine lv_icmp_ne (tgt := 67) hx hb dX2_reckoned_53 (by decide) (fun _ => ?_) (fun c9 => absurd c9 (by decide))
      refine lv_iload_n hx hb dX2_reckoned_67 rfl (lv_at hl 2 rfl) ?_
      refine c_i (r_runS 1 M (m_mrow E hk) hP (lw_S q638 q639 q21 q640) (by decide +kernel) rfl ⟨Nat.le_of_ble_eq_true rfl, Nat.le_of_ble_eq_true rfl⟩ hl.1 rfl (Nat.le_of_ble_eq_true rfl) dX2_reckoned_68 ⟨Nat.le_of_ble_eq_true rfl, Nat.le_of_ble_eq_true rfl⟩) hP (fun r w8 H locs hq hP => ?_)
      obtain ⟨er, ew⟩ := hq
      rw [ew] at hP
      rw [er]
      refine lv_istore (lv' := [(6, .int (if k < 8 then -1 else nI (k % 4))), (5, .int 0), (0, .ref x), (1, .int (nI k)), (2, .int (nI (i + 1))), (3, .long b)]) hx hb dX2_reckoned_71 hl (by decide) rfl (fun ls hl => ?_)
      refine lv_aload_n hx hb dX2_reckoned_73 rfl (lv_at hl 2 rfl) ?_
      refine r_get M cdX2 hP hy 2 (by decide) q557 (fun _ h9 => h9) rfl dX2_reckoned_74 ?_
      refine lv_iload_n hx hb dX2_reckoned_77 rfl (lv_at hl 3 rfl) ?_
      refine r_lald M hP h2 (vp_in_nI hk (by decide)) dX2_reckoned_78 ?_
      rw [nI_clamp (by omega), g2 k hk]
      refine lv_lload_n hx hb dX2_reckoned_79 rfl (lv_at hl 5 rfl) ?_
      refine lv_ladd hx hb dX2_reckoned_80 ?_
      refine lv_iload hx hb dX2_reckoned_81 (lv_at hl 0 rfl) ?_
      refine lv_iconst (v := (-1)) hx hb dX2_reckoned_83 (by decide) ?_
      have hw : wayA ((n, kd, th, ca), rw, (an, fl), (c0, c1, c2, c3, c4, c5)) (nI k) (nI (i + 1)) b = 0 := wayA_0 hf hk hf0
      by_cases h8 : k < 8
      · rw [if_pos h8]
        refine lv_icmp_ne (tgt := 91) hx hb dX2_reckoned_84 (by decide) (fun c9 => absurd (rfl) c9) (fun _ => ?_)
        refine lv_lconst (v := 0) hx hb dX2_reckoned_87 (by decide) ?_
        refine lv_goto (tgt := 98) hx hb dX2_reckoned_88 (by decide) ?_
        refine lv_ladd hx hb dX2_reckoned_98 ?_
        refine lv_aload_n hx hb dX2_reckoned_99 rfl (lv_at hl 2 rfl) ?_
        refine r_get M cdX2 hP hy 4 (by decide) q559 (fun _ h9 => h9) rfl dX2_reckoned_100 ?_
        refine lv_iload_n hx hb dX2_reckoned_103 rfl (lv_at hl 4 rfl) ?_
        refine lv_iconst (v := 1) hx hb dX2_reckoned_104 (by decide) ?_
        refine lv_isub hx hb dX2_reckoned_105 ?_
        rw [nI_pred]
        refine r_iald M hP h4 (vp_in_nI (by omega) (by decide)) dX2_reckoned_106 ?_
        rw [nI_clamp (by omega), g4 i hin]
        refine lv_iconst (v := 3) hx hb dX2_reckoned_107 (by decide) ?_
        by_cases hkd : kd i = 3
        · refine lv_icmp_ne (tgt := 122) hx hb dX2_reckoned_108 (by decide) (fun c9 => absurd (hkd) c9) (fun _ => ?_)
          refine lv_aload_n hx hb dX2_reckoned_111 rfl (lv_at hl 2 rfl) ?_
          refine r_get M cdX2 hP hy 6 (by decide) q561 (fun _ h9 => h9) rfl dX2_reckoned_112 ?_
          refine lv_iload_n hx hb dX2_reckoned_115 rfl (lv_at hl 4 rfl) ?_
          refine lv_iconst (v := 1) hx hb dX2_reckoned_116 (by decide) ?_
          refine lv_isub hx hb dX2_reckoned_117 ?_
          rw [nI_pred]
          refine r_lald M hP h6 (vp_in_nI (by omega) (by decide)) dX2_reckoned_118 ?_
          rw [nI_clamp (by omega), g6 i hin]
          refine lv_goto (tgt := 123) hx hb dX2_reckoned_119 (by decide) ?_
          refine lv_ladd hx hb dX2_reckoned_123 ?_
          exact r_lret M hr hlk hP ⟨by rw [fAgain_yes hf hk hi, fTry, if_pos hf0, valA, rowA, if_pos h8, if_pos hkd, nI_l (hca i)]; rfl, by rw [hw]; exact ew1⟩ dX2_reckoned_124 (Nat.le_of_ble_eq_true rfl) (Nat.le_of_ble_eq_true rfl)
        · refine lv_icmp_ne (tgt := 122) hx hb dX2_reckoned_108 (by decide) (fun _ => ?_) (fun c9 => absurd c9 (hkd))
          refine lv_lconst (v := 0) hx hb dX2_reckoned_122 (by decide) ?_
          refine lv_ladd hx hb dX2_reckoned_123 ?_
          exact r_lret M hr hlk hP ⟨by rw [fAgain_yes hf hk hi, fTry, if_pos hf0, valA, rowA, if_pos h8, if_neg hkd]; rfl, by rw [hw]; exact ew1⟩ dX2_reckoned_124 (Nat.le_of_ble_eq_true rfl) (Nat.le_of_ble_eq_true rfl)
      · have hk4 : k % 4 < 4 := Nat.mod_lt _ (by decide)
        have hl : lv_has ls 7 [(6, .int (nI (k % 4))), (5, .int 0), (0, .ref x), (1, .int (nI k)), (2, .int (nI (i + 1))), (3, .long b)] := by rw [if_neg h8] at hl; exact hl
        rw [if_neg h8]
        refine lv_icmp_ne (tgt := 91) hx hb dX2_reckoned_84 (by decide) (fun _ => ?_) (fun c9 => absurd c9 (nI_m1 (by omega)))
        refine lv_aload_n hx hb dX2_reckoned_91 rfl (lv_at hl 2 rfl) ?_
        refine r_get M cdX2 hP hy 0 (by decide) q555 (fun _ h9 => h9) rfl dX2_reckoned_92 ?_
        refine lv_iload hx hb dX2_reckoned_95 (lv_at hl 0 rfl) ?_
        refine r_lald M hP h0 (vp_in_nI hk4 (by decide)) dX2_reckoned_97 ?_
        rw [nI_clamp (by omega), g0 (k % 4) hk4]
        refine lv_ladd hx hb dX2_reckoned_98 ?_
        refine lv_aload_n hx hb dX2_reckoned_99 rfl (lv_at hl 2 rfl) ?_
        refine r_get M cdX2 hP hy 4 (by decide) q559 (fun _ h9 => h9) rfl dX2_reckoned_100 ?_
        refine lv_iload_n hx hb dX2_reckoned_103 rfl (lv_at hl 4 rfl) ?_
        refine lv_iconst (v := 1) hx hb dX2_reckoned_104 (by decide) ?_
        refine lv_isub hx hb dX2_reckoned_105 ?_
        rw [nI_pred]
        refine r_iald M hP h4 (vp_in_nI (by omega) (by decide)) dX2_reckoned_106 ?_
        rw [nI_clamp (by omega), g4 i hin]
        refine lv_iconst (v := 3) hx hb dX2_reckoned_107 (by decide) ?_
        by_cases hkd : kd i = 3
        · refine lv_icmp_ne (tgt := 122) hx hb dX2_reckoned_108 (by decide) (fun c9 => absurd (hkd) c9) (fun _ => ?_)
          refine lv_aload_n hx hb dX2_reckoned_111 rfl (lv_at hl 2 rfl) ?_
          refine r_get M cdX2 hP hy 6 (by decide) q561 (fun _ h9 => h9) rfl dX2_reckoned_112 ?_
          refine lv_iload_n hx hb dX2_reckoned_115 rfl (lv_at hl 4 rfl) ?_
          refine lv_iconst (v := 1) hx hb dX2_reckoned_116 (by decide) ?_
          refine lv_isub hx hb dX2_reckoned_117 ?_
          rw [nI_pred]
          refine r_lald M hP h6 (vp_in_nI (by omega) (by decide)) dX2_reckoned_118 ?_
          rw [nI_clamp (by omega), g6 i hin]
          refine lv_goto (tgt := 123) hx hb dX2_reckoned_119 (by decide) ?_
          refine lv_ladd hx hb dX2_reckoned_123 ?_
          exact r_lret M hr hlk hP ⟨by rw [fAgain_yes hf hk hi, fTry, if_pos hf0, valA, rowA, if_neg h8, if_pos hkd, nI_l (hca i)], by rw [hw]; exact ew1⟩ dX2_reckoned_124 (Nat.le_of_ble_eq_true rfl) (Nat.le_of_ble_eq_true rfl)
        · refine lv_icmp_ne (tgt := 122) hx hb dX2_reckoned_108 (by decide) (fun _ => ?_) (fun c9 => absurd c9 (hkd))
          refine lv_lconst (v := 0) hx hb dX2_reckoned_122 (by decide) ?_
          refine lv_ladd hx hb dX2_reckoned_123 ?_
          exact r_lret M hr hlk hP ⟨by rw [fAgain_yes hf hk hi, fTry, if_pos hf0, valA, rowA, if_neg h8, if_neg hkd], by rw [hw]; exact ew1⟩ dX2_reckoned_124 (Nat.le_of_ble_eq_true rfl) (Nat.le_of_ble_eq_true rfl)
    · refine lv_if_eq (tgt := 32) hx hb dX2_reckoned_25 (by decide) (fun c9 => absurd c9 (nI_ne0 (by omega) (by omega))) (fun _ => ?_)
      refine lv_iconst (v := 1) hx hb dX2_reckoned_28 (by decide) ?_
      refine lv_goto (tgt := 33) hx hb dX2_reckoned_29 (by decide) ?_
      refine r_put (v := .int 1) M cdX2 hP hy 15 (by decide) q570 (fun _ h9 => h9) rfl rfl rfl (Nat.le_of_ble_eq_true rfl) dX2_reckoned_33 (fun H locs hP => ?_)
      obtain ⟨w1, ew1⟩ : ∃ z : mm, z = mset w x (50, oM a0 a1 a2 a3 a4 a5 a6 n zz c0 c1 c2 c3 c4 c5 1) := ⟨_, rfl⟩
      have hP := Px.re ew1 hP
      have kk0 : Kp (fun t => t ≠ 50) w w1 := by rw [ew1]; exact Kp.put hy (fun z => z rfl)
      have h0 := kk0 _ _ _ h0 (by omega)
      have h1 := kk0 _ _ _ h1 (by omega)
      have h2 := kk0 _ _ _ h2 (by omega)
      have h3 := kk0 _ _ _ h3 (by omega)
      have h4 := kk0 _ _ _ h4 (by omega)
      have h5 := kk0 _ _ _ h5 (by omega)
      have h6 := kk0 _ _ _ h6 (by omega)
      have hy : w1 x = some (50, oM a0 a1 a2 a3 a4 a5 a6 n zz c0 c1 c2 c3 c4 c5 1) := by rw [ew1]; exact mset_self ..
      have ka : Kp NT w w1 := kk0.mono (fun t ht => by unfold NT at ht; omega)
      refine lv_aload_n hx hb dX2_reckoned_36 rfl (lv_at hl 1 rfl) ?_
      refine r_get M cdX2 hP hy 15 (by decide) q570 (fun _ h9 => h9) rfl dX2_reckoned_37 ?_
      refine lv_iconst (v := 2) hx hb dX2_reckoned_40 (by decide) ?_
      refine lv_icmp_ne (tgt := 48) hx hb dX2_reckoned_41 (by decide) (fun _ => ?_) (fun c9 => absurd c9 (by decide))
      refine lv_aload_n hx hb dX2_reckoned_48 rfl (lv_at hl 1 rfl) ?_
      refine r_get M cdX2 hP hy 15 (by decide) q570 (fun _ h9 => h9) rfl dX2_reckoned_49 ?_
      refine lv_iconst (v := 1) hx hb dX2_reckoned_52 (by decide) ?_
      refine lv_icmp_ne (tgt := 67) hx hb dX2_reckoned_53 (by decide) (fun c9 => absurd (rfl) c9) (fun _ => ?_)
      refine lv_bipush (v := (-10)) hx hb dX2_reckoned_56 (by decide) ?_
      refine lv_aload_n hx hb dX2_reckoned_58 rfl (lv_at hl 1 rfl) ?_
      refine r_get M cdX2 hP hy 3 (by decide) q558 (fun _ h9 => h9) rfl dX2_reckoned_59 ?_
      refine lv_iload_n hx hb dX2_reckoned_62 rfl (lv_at hl 2 rfl) ?_
      refine r_iald M hP h3 (vp_in_nI hk (by decide)) dX2_reckoned_63 ?_
      rw [nI_clamp (by omega), g3 k hk]
      refine lv_isub hx hb dX2_reckoned_64 ?_
      refine lv_i2l hx hb dX2_reckoned_65 rfl ?_
      have hw : wayA ((n, kd, th, ca), rw, (an, fl), (c0, c1, c2, c3, c4, c5)) (nI k) (nI (i + 1)) b = 1 := wayA_1 hf hk hf0
      exact r_lret M hr hlk hP ⟨by rw [fAgain_yes hf hk hi, fTry, if_neg hf0]; exact m10 hk6, by rw [hw]; exact ew1⟩ dX2_reckoned_66 (Nat.le_of_ble_eq_true rfl) (Nat.le_of_ble_eq_true rfl)
  · refine lv_if_eq (tgt := 19) hx hb dX2_reckoned_12 (by decide) (fun c9 => absurd c9 (hz)) (fun _ => ?_)
    refine lv_iconst (v := 2) hx hb dX2_reckoned_15 (by decide) ?_
    refine lv_goto (tgt := 33) hx hb dX2_reckoned_16 (by decide) ?_
    refine r_put (v := .int 2) M cdX2 hP hy 15 (by decide) q570 (fun _ h9 => h9) rfl rfl rfl (Nat.le_of_ble_eq_true rfl) dX2_reckoned_33 (fun H locs hP => ?_)
    obtain ⟨w1, ew1⟩ : ∃ z : mm, z = mset w x (50, oM a0 a1 a2 a3 a4 a5 a6 n zz c0 c1 c2 c3 c4 c5 2) := ⟨_, rfl⟩
    have hP := Px.re ew1 hP
    have kk0 : Kp (fun t => t ≠ 50) w w1 := by rw [ew1]; exact Kp.put hy (fun z => z rfl)
    have h0 := kk0 _ _ _ h0 (by omega)
    have h1 := kk0 _ _ _ h1 (by omega)
    have h2 := kk0 _ _ _ h2 (by omega)
    have h3 := kk0 _ _ _ h3 (by omega)
    have h4 := kk0 _ _ _ h4 (by omega)
    have h5 := kk0 _ _ _ h5 (by omega)
    have h6 := kk0 _ _ _ h6 (by omega)
    have hy : w1 x = some (50, oM a0 a1 a2 a3 a4 a5 a6 n zz c0 c1 c2 c3 c4 c5 2) := by rw [ew1]; exact mset_self ..
    have ka : Kp NT w w1 := kk0.mono (fun t ht => by unfold NT at ht; omega)
    refine lv_aload_n hx hb dX2_reckoned_36 rfl (lv_at hl 1 rfl) ?_
    refine r_get M cdX2 hP hy 15 (by decide) q570 (fun _ h9 => h9) rfl dX2_reckoned_37 ?_
    refine lv_iconst (v := 2) hx hb dX2_reckoned_40 (by decide) ?_
    refine lv_icmp_ne (tgt := 48) hx hb dX2_reckoned_41 (by decide) (fun c9 => absurd (rfl) c9) (fun _ => ?_)
    refine lv_iload hx hb dX2_reckoned_44 (lv_at hl 0 rfl) ?_
    refine lv_i2l hx hb dX2_reckoned_46 rfl ?_
    have hno : ¬ fRef ((n, kd, th, ca), rw, (an, fl), (c0, c1, c2, c3, c4, c5)) q num b = 0 := by rw [hf]; exact hz
    exact r_lret M hr hlk hP ⟨by rw [fAgain_no hno, hf], by rw [wayA_no hno]; exact ew1⟩ dX2_reckoned_47 (Nat.le_of_ble_eq_true rfl) (Nat.le_of_ble_eq_true rfl)
set_option maxHeartbeats 4000000 in
set_option maxRecDepth 100000 in
/-- MainframeDeskModel.again(call, number, a) -/
theorem m_magain {l : Launch} {s0 : State} {D : va_G} {G ad : Nat → Nat} {w : mm} (E : Bs l s0 D G ad) {x : Nat} {n : Nat} {kd : Nat → Int32} {th : Nat → Bool} {ca : Nat → Nat} {rw : Nat → List Int64} {an : Nat → Int64} {fl : Nat → Nat} {c0 c1 c2 c3 c4 c5 : Int32} (h : MD G w x ((n, kd, th, ca), rw, (an, fl), (c0, c1, c2, c3, c4, c5))) (hn : n ≤ 200) (hlen : ∀ k, (rw k).length ≤ 50) (hfl : ∀ k, fl k ≤ 6) (hca : ∀ i, ca i < 2 ^ 30) (q num : Int32) (b : Int64) : Mt l yX2_again cX2_again 5 (some FieldType.long) (rmk 3 0 0 90) [.ref x, .int q, .int num, .long b] s0 D w (Ql s0 D (fun r w1 => r = fAgain ((n, kd, th, ca), rw, (an, fl), (c0, c1, c2, c3, c4, c5)) q num b ∧ MD G w1 x ((n, kd, th, ca), rw, (an, fl), (c0, c1, c2, c3, c4, c5)) ∧ Kp NT w w1)) := by
  refine Met.go E (by decide +kernel) (Nat.le_of_ble_eq_true rfl) (fun p ev s m below meth c ls M hr hlk hnm hl hP => ?_)
  have hx := M.1.1
  have hb := M.1.2.1
  have hl : lv_has ls 5 [(0, .ref x), (1, .int q), (2, .int num), (3, .long b)] := hl
  obtain ⟨wy, a0, a1, a2, a3, a4, a5, a6, z, f0, f1, f2, f3, f4, f5, f6, hy, ⟨h0, g0⟩, ⟨h1, g1⟩, ⟨h2, g2⟩, ⟨h3, g3⟩, ⟨h4, g4⟩, ⟨h5, g5⟩, ⟨h6, g6⟩⟩ := h
  refine lv_aload_n hx hb dX2_again_0 rfl (lv_at hl 0 rfl) ?_
  refine lv_iconst (v := 0) hx hb dX2_again_1 (by decide) ?_
  refine r_put (v := .int 0) M cdX2 hP hy 8 (by decide) q563 (fun _ h9 => h9) rfl rfl rfl (Nat.le_of_ble_eq_true rfl) dX2_again_2 (fun H locs hP => ?_)
  obtain ⟨w1, ew1⟩ : ∃ z : mm, z = mset w x (50, oM a0 a1 a2 a3 a4 a5 a6 n 0 c0 c1 c2 c3 c4 c5 wy) := ⟨_, rfl⟩
  have hP := Px.re ew1 hP
  have kk0 : Kp (fun t => t ≠ 50) w w1 := by rw [ew1]; exact Kp.put hy (fun z => z rfl)
  have h0 := kk0 _ _ _ h0 (by omega)
  have h1 := kk0 _ _ _ h1 (by omega)
  have h2 := kk0 _ _ _ h2 (by omega)
  have h3 := kk0 _ _ _ h3 (by omega)
  have h4 := kk0 _ _ _ h4 (by omega)
  have h5 := kk0 _ _ _ h5 (by omega)
  have h6 := kk0 _ _ _ h6 (by omega)
  have hy : w1 x = some (50, oM a0 a1 a2 a3 a4 a5 a6 n 0 c0 c1 c2 c3 c4 c5 wy) := by rw [ew1]; exact mset_self ..
  have ka : Kp NT w w1 := kk0.mono (fun t ht => by unfold NT at ht; omega)
  refine lv_aload_n hx hb dX2_again_5 rfl (lv_at hl 0 rfl) ?_
  refine lv_iload_n hx hb dX2_again_6 rfl (lv_at hl 1 rfl) ?_
  refine lv_iload_n hx hb dX2_again_7 rfl (lv_at hl 2 rfl) ?_
  refine lv_lload_n hx hb dX2_again_8 rfl (lv_at hl 3 rfl) ?_
  refine c_l (r_runV 3 M (m_mreck E hy h0 g0 h1 g1 h2 g2 h3 g3 h4 g4 h5 g5 h6 g6 hn hlen hfl (fun i => by have := hca i; omega) q num b) hP (Rc.of cdX2 hy) (lw_V q629 q631 qs9 q21 q632) (by decide +kernel) rfl ⟨Nat.le_of_ble_eq_true rfl, Nat.le_of_ble_eq_true rfl⟩ hl.1 rfl (Nat.le_of_ble_eq_true rfl) dX2_again_9 ⟨Nat.le_of_ble_eq_true rfl, Nat.le_of_ble_eq_true rfl⟩) hP (fun r w2 H locs hq hP => ?_)
  obtain ⟨er, ew2⟩ := hq
  rw [er]
  have kk1 : Kp (fun t => t ≠ 50) w1 w2 := by rw [ew2]; exact Kp.put hy (fun z => z rfl)
  have h0 := kk1 _ _ _ h0 (by omega)
  have h1 := kk1 _ _ _ h1 (by omega)
  have h2 := kk1 _ _ _ h2 (by omega)
  have h3 := kk1 _ _ _ h3 (by omega)
  have h4 := kk1 _ _ _ h4 (by omega)
  have h5 := kk1 _ _ _ h5 (by omega)
  have h6 := kk1 _ _ _ h6 (by omega)
  have hy : w2 x = some (50, oM a0 a1 a2 a3 a4 a5 a6 n 0 c0 c1 c2 c3 c4 c5 (wayA ((n, kd, th, ca), rw, (an, fl), (c0, c1, c2, c3, c4, c5)) q num b)) := by rw [ew2]; exact mset_self ..
  have ka := ka.tr (kk1.mono (fun t ht => by unfold NT at ht; omega))
  exact r_lret M hr hlk hP ⟨rfl, ⟨(wayA ((n, kd, th, ca), rw, (an, fl), (c0, c1, c2, c3, c4, c5)) q num b), a0, a1, a2, a3, a4, a5, a6, 0, f0, f1, f2, f3, f4, f5, f6, hy, ⟨h0, g0⟩, ⟨h1, g1⟩, ⟨h2, g2⟩, ⟨h3, g3⟩, ⟨h4, g4⟩, ⟨h5, g5⟩, ⟨h6, g6⟩⟩, ka⟩ dX2_again_12 (Nat.le_of_ble_eq_true rfl) (Nat.le_of_ble_eq_true rfl)
set_option maxHeartbeats 4000000 in
set_option maxRecDepth 100000 in
/-- MainframeDeskModel.call(call, number, a) -/
theorem m_mcall {l : Launch} {s0 : State} {D : va_G} {G ad : Nat → Nat} {w : mm} (E : Bs l s0 D G ad) {x : Nat} {n : Nat} {kd : Nat → Int32} {th : Nat → Bool} {ca : Nat → Nat} {rw : Nat → List Int64} {an : Nat → Int64} {fl : Nat → Nat} {c0 c1 c2 c3 c4 c5 : Int32} (h : MD G w x ((n, kd, th, ca), rw, (an, fl), (c0, c1, c2, c3, c4, c5))) (hn : n ≤ 200) (hlen : ∀ k, (rw k).length ≤ 50) (hfl : ∀ k, fl k ≤ 6) (hca : ∀ i, ca i < 2 ^ 30) (q num : Int32) (b : Int64) : Mt l yX2_call cX2_call 8 (some FieldType.long) (rmk 3 0 0 90) [.ref x, .int q, .int num, .long b] s0 D w (Ql s0 D (fun r w1 => r = fAgain ((n, kd, th, ca), rw, (an, fl), (c0, c1, c2, c3, c4, c5)) q num b ∧ MD G w1 x (fCall ((n, kd, th, ca), rw, (an, fl), (c0, c1, c2, c3, c4, c5)) q num b) ∧ Kp NT w w1)) := by
  refine Met.go E (by decide +kernel) (Nat.le_of_ble_eq_true rfl) (fun p ev s m below meth c ls M hr hlk hnm hl hP => ?_)
  have hx := M.1.1
  have hb := M.1.2.1
  have hl : lv_has ls 8 [(0, .ref x), (1, .int q), (2, .int num), (3, .long b)] := hl
  obtain ⟨wy, a0, a1, a2, a3, a4, a5, a6, z, f0, f1, f2, f3, f4, f5, f6, hy, ⟨h0, g0⟩, ⟨h1, g1⟩, ⟨h2, g2⟩, ⟨h3, g3⟩, ⟨h4, g4⟩, ⟨h5, g5⟩, ⟨h6, g6⟩⟩ := h
  refine lv_aload_n hx hb dX2_call_0 rfl (lv_at hl 0 rfl) ?_
  refine lv_iconst (v := 0) hx hb dX2_call_1 (by decide) ?_
  refine r_put (v := .int 0) M cdX2 hP hy 8 (by decide) q563 (fun _ h9 => h9) rfl rfl rfl (Nat.le_of_ble_eq_true rfl) dX2_call_2 (fun H locs hP => ?_)
  obtain ⟨w1, ew1⟩ : ∃ z : mm, z = mset w x (50, oM a0 a1 a2 a3 a4 a5 a6 n 0 c0 c1 c2 c3 c4 c5 wy) := ⟨_, rfl⟩
  have hP := Px.re ew1 hP
  have kk0 : Kp (fun t => t ≠ 50) w w1 := by rw [ew1]; exact Kp.put hy (fun z => z rfl)
  have h0 := kk0 _ _ _ h0 (by omega)
  have h1 := kk0 _ _ _ h1 (by omega)
  have h2 := kk0 _ _ _ h2 (by omega)
  have h3 := kk0 _ _ _ h3 (by omega)
  have h4 := kk0 _ _ _ h4 (by omega)
  have h5 := kk0 _ _ _ h5 (by omega)
  have h6 := kk0 _ _ _ h6 (by omega)
  have hy : w1 x = some (50, oM a0 a1 a2 a3 a4 a5 a6 n 0 c0 c1 c2 c3 c4 c5 wy) := by rw [ew1]; exact mset_self ..
  have ka : Kp NT w w1 := kk0.mono (fun t ht => by unfold NT at ht; omega)
  refine lv_aload_n hx hb dX2_call_5 rfl (lv_at hl 0 rfl) ?_
  refine lv_iload_n hx hb dX2_call_6 rfl (lv_at hl 1 rfl) ?_
  refine lv_iload_n hx hb dX2_call_7 rfl (lv_at hl 2 rfl) ?_
  refine lv_lload_n hx hb dX2_call_8 rfl (lv_at hl 3 rfl) ?_
  refine c_l (r_runV 3 M (m_mreck E hy h0 g0 h1 g1 h2 g2 h3 g3 h4 g4 h5 g5 h6 g6 hn hlen hfl (fun i => by have := hca i; omega) q num b) hP (Rc.of cdX2 hy) (lw_V q629 q631 qs9 q21 q632) (by decide +kernel) rfl ⟨Nat.le_of_ble_eq_true rfl, Nat.le_of_ble_eq_true rfl⟩ hl.1 rfl (Nat.le_of_ble_eq_true rfl) dX2_call_9 ⟨Nat.le_of_ble_eq_true rfl, Nat.le_of_ble_eq_true rfl⟩) hP (fun r w2 H locs hq hP => ?_)
  obtain ⟨er, ew2⟩ := hq
  rw [er]
  have kk1 : Kp (fun t => t ≠ 50) w1 w2 := by rw [ew2]; exact Kp.put hy (fun z => z rfl)
  have h0 := kk1 _ _ _ h0 (by omega)
  have h1 := kk1 _ _ _ h1 (by omega)
  have h2 := kk1 _ _ _ h2 (by omega)
  have h3 := kk1 _ _ _ h3 (by omega)
  have h4 := kk1 _ _ _ h4 (by omega)
  have h5 := kk1 _ _ _ h5 (by omega)
  have h6 := kk1 _ _ _ h6 (by omega)
  have hy : w2 x = some (50, oM a0 a1 a2 a3 a4 a5 a6 n 0 c0 c1 c2 c3 c4 c5 (wayA ((n, kd, th, ca), rw, (an, fl), (c0, c1, c2, c3, c4, c5)) q num b)) := by rw [ew2]; exact mset_self ..
  have ka := ka.tr (kk1.mono (fun t ht => by unfold NT at ht; omega))
  refine lv_lstore (lv' := [(5, .long (fAgain ((n, kd, th, ca), rw, (an, fl), (c0, c1, c2, c3, c4, c5)) q num b)), (0, .ref x), (1, .int q), (2, .int num), (3, .long b)]) hx hb dX2_call_12 hl (by decide) rfl (fun ls hl => ?_)
  refine lv_aload_n hx hb dX2_call_14 rfl (lv_at hl 1 rfl) ?_
  refine r_get M cdX2 hP hy 15 (by decide) q570 (fun _ h9 => h9) rfl dX2_call_15 ?_
  refine lv_iconst (v := 2) hx hb dX2_call_18 (by decide) ?_
  by_cases hf : fRef ((n, kd, th, ca), rw, (an, fl), (c0, c1, c2, c3, c4, c5)) q num b = 0
  · obtain ⟨k, i, hk, hin, rfl, rfl, hi⟩ := ref_in hn hf
    have hn2 : ¬ wayA ((n, kd, th, ca), rw, (an, fl), (c0, c1, c2, c3, c4, c5)) (nI k) (nI (i + 1)) b = 2 := by
      by_cases hf0 : fl k = 0
      · rw [wayA_0 hf hk hf0]; decide
      · rw [wayA_1 hf hk hf0]; decide
    refine lv_icmp_ne (tgt := 35) hx hb dX2_call_19 (by decide) (fun _ => ?_) (fun c9 => absurd c9 (hn2))
    refine lv_iload_n hx hb dX2_call_35 rfl (lv_at hl 2 rfl) ?_
    refine c_i (r_runS 1 M (m_mrow E hk) hP (lw_S q638 q639 q21 q640) (by decide +kernel) rfl ⟨Nat.le_of_ble_eq_true rfl, Nat.le_of_ble_eq_true rfl⟩ hl.1 rfl (Nat.le_of_ble_eq_true rfl) dX2_call_36 ⟨Nat.le_of_ble_eq_true rfl, Nat.le_of_ble_eq_true rfl⟩) hP (fun r w8 H locs hq hP => ?_)
    obtain ⟨er, ew⟩ := hq
    rw [ew] at hP
    rw [er]
    refine lv_istore (lv' := [(7, .int (if k < 8 then -1 else nI (k % 4))), (5, .long (fAgain ((n, kd, th, ca), rw, (an, fl), (c0, c1, c2, c3, c4, c5)) (nI k) (nI (i + 1)) b)), (0, .ref x), (1, .int (nI k)), (2, .int (nI (i + 1))), (3, .long b)]) hx hb dX2_call_39 hl (by decide) rfl (fun ls hl => ?_)
    have tail : ∀ (v : mm) (e0 : Nat → Int64) (e1 : Nat → Int32) (H : Heap) (locs : List Loc) (ls : Array Slot), v x = some (50, oM a0 a1 a2 a3 a4 a5 a6 n 0 c0 c1 c2 c3 c4 c5 (wayA ((n, kd, th, ca), rw, (an, fl), (c0, c1, c2, c3, c4, c5)) (nI k) (nI (i + 1)) b)) → v a0 = some (51, eJ G 4 e0) → (∀ j, j < 4 → e0 j = vsum (clrA rw k j)) → v a1 = some (52, eI G 4 e1) → (∀ j, j < 4 → e1 j = nI (clrA rw k j).length) → Kp (fun t => t ≠ 51 ∧ t ≠ 52) w2 v → Px s0 D v H locs → lv_has ls 8 [(5, .long (fAgain ((n, kd, th, ca), rw, (an, fl), (c0, c1, c2, c3, c4, c5)) (nI k) (nI (i + 1)) b)), (0, .ref x), (1, .int (nI k)), (2, .int (nI (i + 1))), (3, .long b)] → W p l ev (rmk 3 0 0 90) s m #[Value.ref x, Value.int (nI k), Value.int (nI (i + 1)), Value.long b] below meth c H locs 0 0 (MQ below (Ql s0 D (fun r w1 => r = fAgain ((n, kd, th, ca), rw, (an, fl), (c0, c1, c2, c3, c4, c5)) (nI k) (nI (i + 1)) b ∧ MD G w1 x (fCall ((n, kd, th, ca), rw, (an, fl), (c0, c1, c2, c3, c4, c5)) (nI k) (nI (i + 1)) b) ∧ Kp NT w w1)) #[Value.ref x, Value.int (nI k), Value.int (nI (i + 1)), Value.long b] s 0 0 (Fr s0)) (F0 m 63 ls []) := by
      intro v e0 e1 H locs ls hy h0 g0 h1 g1 kv hP hl
      have h2 := kv _ _ _ h2 (by omega)
      have h3 := kv _ _ _ h3 (by omega)
      have h4 := kv _ _ _ h4 (by omega)
      have h5 := kv _ _ _ h5 (by omega)
      have h6 := kv _ _ _ h6 (by omega)
      have ka := ka.tr (kv.mono (fun t ht => by unfold NT at ht; omega))
      refine lv_aload_n hx hb dX2_call_63 rfl (lv_at hl 1 rfl) ?_
      refine r_get M cdX2 hP hy 15 (by decide) q570 (fun _ h9 => h9) rfl dX2_call_64 ?_
      by_cases hf0 : fl k = 0
      · have hw : wayA ((n, kd, th, ca), rw, (an, fl), (c0, c1, c2, c3, c4, c5)) (nI k) (nI (i + 1)) b = 0 := wayA_0 hf hk hf0
        refine lv_if_ne (tgt := 95) hx hb dX2_call_67 (by decide) (fun c9 => absurd (hw) c9) (fun _ => ?_)
        refine lv_aload_n hx hb dX2_call_70 rfl (lv_at hl 1 rfl) ?_
        refine r_get M cdX2 hP hy 6 (by decide) q561 (fun _ h9 => h9) rfl dX2_call_71 ?_
        refine lv_iload_n hx hb dX2_call_74 rfl (lv_at hl 3 rfl) ?_
        refine lv_iconst (v := 1) hx hb dX2_call_75 (by decide) ?_
        refine lv_isub hx hb dX2_call_76 ?_
        rw [nI_pred]
        refine lv_dup2_11 hx hb dX2_call_77 rfl rfl ?_
        refine r_lald M hP h6 (vp_in_nI (by omega) (by decide)) dX2_call_78 ?_
        rw [nI_clamp (by omega), g6 i hin]
        refine lv_lconst (v := 1) hx hb dX2_call_79 (by decide) ?_
        refine lv_ladd hx hb dX2_call_80 ?_
        rw [lN_s]
        refine r_last M hP h6 (vp_in_nI (by omega) (by decide)) dX2_call_81 (fun H locs hP => ?_)
        rw [nI_clamp (by omega)] at hP
        obtain ⟨w3, ew3⟩ : ∃ z : mm, z = mset v a6 (57, eJ G 200 (vp_updL f6 i (lN (ca i + 1)))) := ⟨_, rfl⟩
        have hP := Px.re ew3 hP
        have kk2 : Kp (fun t => t ≠ 57) v w3 := by rw [ew3]; exact Kp.put h6 (fun z => z rfl)
        have h0 := kk2 _ _ _ h0 (by omega)
        have h1 := kk2 _ _ _ h1 (by omega)
        have h2 := kk2 _ _ _ h2 (by omega)
        have h3 := kk2 _ _ _ h3 (by omega)
        have h4 := kk2 _ _ _ h4 (by omega)
        have h5 := kk2 _ _ _ h5 (by omega)
        have hy := kk2 _ _ _ hy (by omega)
        have h6 : w3 a6 = some (57, eJ G 200 (vp_updL f6 i (lN (ca i + 1)))) := by rw [ew3]; exact mset_self ..
        have ka := ka.tr (kk2.mono (fun t ht => by unfold NT at ht; omega))
        refine lv_aload_n hx hb dX2_call_82 rfl (lv_at hl 1 rfl) ?_
        refine lv_dup hx hb dX2_call_83 rfl ?_
        refine r_get M cdX2 hP hy 14 (by decide) q569 (fun _ h9 => h9) rfl dX2_call_84 ?_
        refine lv_iconst (v := 1) hx hb dX2_call_87 (by decide) ?_
        refine lv_iadd hx hb dX2_call_88 ?_
        refine r_put (v := .int (c5 + 1)) M cdX2 hP hy 14 (by decide) q569 (fun _ h9 => h9) rfl rfl rfl (Nat.le_of_ble_eq_true rfl) dX2_call_89 (fun H locs hP => ?_)
        obtain ⟨w4, ew4⟩ : ∃ z : mm, z = mset w3 x (50, oM a0 a1 a2 a3 a4 a5 a6 n 0 c0 c1 c2 c3 c4 (c5 + 1) (wayA ((n, kd, th, ca), rw, (an, fl), (c0, c1, c2, c3, c4, c5)) (nI k) (nI (i + 1)) b)) := ⟨_, rfl⟩
        have hP := Px.re ew4 hP
        have kk3 : Kp (fun t => t ≠ 50) w3 w4 := by rw [ew4]; exact Kp.put hy (fun z => z rfl)
        have h0 := kk3 _ _ _ h0 (by omega)
        have h1 := kk3 _ _ _ h1 (by omega)
        have h2 := kk3 _ _ _ h2 (by omega)
        have h3 := kk3 _ _ _ h3 (by omega)
        have h4 := kk3 _ _ _ h4 (by omega)
        have h5 := kk3 _ _ _ h5 (by omega)
        have h6 := kk3 _ _ _ h6 (by omega)
        have hy : w4 x = some (50, oM a0 a1 a2 a3 a4 a5 a6 n 0 c0 c1 c2 c3 c4 (c5 + 1) (wayA ((n, kd, th, ca), rw, (an, fl), (c0, c1, c2, c3, c4, c5)) (nI k) (nI (i + 1)) b)) := by rw [ew4]; exact mset_self ..
        have ka := ka.tr (kk3.mono (fun t ht => by unfold NT at ht; omega))
        refine lv_goto (tgt := 134) hx hb dX2_call_92 (by decide) ?_
        refine lv_lload hx hb dX2_call_134 (lv_at hl 0 rfl) ?_
        have g6 : ∀ j, j < n → vp_updL f6 i (lN (ca i + 1)) j = lN (va_up ca i (ca i + 1) j) := fun j hj => by
          by_cases hji : j = i
          · rw [hji, pk_uLs, va_up_self]
          · rw [pk_uLn hji, va_up_ne _ _ hji, g6 j hj]
        exact r_lret M hr hlk hP ⟨rfl, by rw [fCall_yes hf hk hi, fDone, if_pos hf0]; exact ⟨(wayA ((n, kd, th, ca), rw, (an, fl), (c0, c1, c2, c3, c4, c5)) (nI k) (nI (i + 1)) b), a0, a1, a2, a3, a4, a5, a6, 0, e0, e1, f2, f3, f4, f5, (vp_updL f6 i (lN (ca i + 1))), hy, ⟨h0, g0⟩, ⟨h1, g1⟩, ⟨h2, g2⟩, ⟨h3, g3⟩, ⟨h4, g4⟩, ⟨h5, g5⟩, ⟨h6, g6⟩⟩, ka⟩ dX2_call_136 (Nat.le_of_ble_eq_true rfl) (Nat.le_of_ble_eq_true rfl)
      · have hw : wayA ((n, kd, th, ca), rw, (an, fl), (c0, c1, c2, c3, c4, c5)) (nI k) (nI (i + 1)) b = 1 := wayA_1 hf hk hf0
        refine lv_if_ne (tgt := 95) hx hb dX2_call_67 (by decide) (fun _ => ?_) (fun c9 => absurd c9 (by rw [hw]; decide))
        refine lv_aload_n hx hb dX2_call_95 rfl (lv_at hl 1 rfl) ?_
        refine r_get M cdX2 hP hy 5 (by decide) q560 (fun _ h9 => h9) rfl dX2_call_96 ?_
        refine lv_iload_n hx hb dX2_call_99 rfl (lv_at hl 3 rfl) ?_
        refine lv_iconst (v := 1) hx hb dX2_call_100 (by decide) ?_
        refine lv_isub hx hb dX2_call_101 ?_
        rw [nI_pred]
        refine lv_iconst (v := 0) hx hb dX2_call_102 (by decide) ?_
        refine r_zast M hP h5 (vp_in_nI (by omega) (by decide)) rfl dX2_call_103 (fun H locs hP => ?_)
        rw [nI_clamp (by omega)] at hP
        obtain ⟨w3, ew3⟩ : ∃ z : mm, z = mset v a5 (56, eZ G 200 (upd f5 i 0)) := ⟨_, rfl⟩
        have hP := Px.re ew3 hP
        have kk2 : Kp (fun t => t ≠ 56) v w3 := by rw [ew3]; exact Kp.put h5 (fun z => z rfl)
        have h0 := kk2 _ _ _ h0 (by omega)
        have h1 := kk2 _ _ _ h1 (by omega)
        have h2 := kk2 _ _ _ h2 (by omega)
        have h3 := kk2 _ _ _ h3 (by omega)
        have h4 := kk2 _ _ _ h4 (by omega)
        have h6 := kk2 _ _ _ h6 (by omega)
        have hy := kk2 _ _ _ hy (by omega)
        have h5 : w3 a5 = some (56, eZ G 200 (upd f5 i 0)) := by rw [ew3]; exact mset_self ..
        have ka := ka.tr (kk2.mono (fun t ht => by unfold NT at ht; omega))
        refine lv_aload_n hx hb dX2_call_104 rfl (lv_at hl 1 rfl) ?_
        refine lv_aload_n hx hb dX2_call_105 rfl (lv_at hl 1 rfl) ?_
        refine r_get M cdX2 hP hy 3 (by decide) q558 (fun _ h9 => h9) rfl dX2_call_106 ?_
        refine lv_iload_n hx hb dX2_call_109 rfl (lv_at hl 2 rfl) ?_
        refine r_iald M hP h3 (vp_in_nI hk (by decide)) dX2_call_110 ?_
        rw [nI_clamp (by omega), g3 k hk]
        refine r_put (v := .int (nI (fl k))) M cdX2 hP hy 9 (by decide) q564 (fun _ h9 => h9) rfl rfl rfl (Nat.le_of_ble_eq_true rfl) dX2_call_111 (fun H locs hP => ?_)
        obtain ⟨w4, ew4⟩ : ∃ z : mm, z = mset w3 x (50, oM a0 a1 a2 a3 a4 a5 a6 n 0 (nI (fl k)) c1 c2 c3 c4 c5 (wayA ((n, kd, th, ca), rw, (an, fl), (c0, c1, c2, c3, c4, c5)) (nI k) (nI (i + 1)) b)) := ⟨_, rfl⟩
        have hP := Px.re ew4 hP
        have kk3 : Kp (fun t => t ≠ 50) w3 w4 := by rw [ew4]; exact Kp.put hy (fun z => z rfl)
        have h0 := kk3 _ _ _ h0 (by omega)
        have h1 := kk3 _ _ _ h1 (by omega)
        have h2 := kk3 _ _ _ h2 (by omega)
        have h3 := kk3 _ _ _ h3 (by omega)
        have h4 := kk3 _ _ _ h4 (by omega)
        have h5 := kk3 _ _ _ h5 (by omega)
        have h6 := kk3 _ _ _ h6 (by omega)
        have hy : w4 x = some (50, oM a0 a1 a2 a3 a4 a5 a6 n 0 (nI (fl k)) c1 c2 c3 c4 c5 (wayA ((n, kd, th, ca), rw, (an, fl), (c0, c1, c2, c3, c4, c5)) (nI k) (nI (i + 1)) b)) := by rw [ew4]; exact mset_self ..
        have ka := ka.tr (kk3.mono (fun t ht => by unfold NT at ht; omega))
        refine lv_aload_n hx hb dX2_call_114 rfl (lv_at hl 1 rfl) ?_
        refine lv_iload_n hx hb dX2_call_115 rfl (lv_at hl 2 rfl) ?_
        refine r_put (v := .int (nI k)) M cdX2 hP hy 10 (by decide) q565 (fun _ h9 => h9) rfl rfl rfl (Nat.le_of_ble_eq_true rfl) dX2_call_116 (fun H locs hP => ?_)
        obtain ⟨w5, ew5⟩ : ∃ z : mm, z = mset w4 x (50, oM a0 a1 a2 a3 a4 a5 a6 n 0 (nI (fl k)) (nI k) c2 c3 c4 c5 (wayA ((n, kd, th, ca), rw, (an, fl), (c0, c1, c2, c3, c4, c5)) (nI k) (nI (i + 1)) b)) := ⟨_, rfl⟩
        have hP := Px.re ew5 hP
        have kk4 : Kp (fun t => t ≠ 50) w4 w5 := by rw [ew5]; exact Kp.put hy (fun z => z rfl)
        have h0 := kk4 _ _ _ h0 (by omega)
        have h1 := kk4 _ _ _ h1 (by omega)
        have h2 := kk4 _ _ _ h2 (by omega)
        have h3 := kk4 _ _ _ h3 (by omega)
        have h4 := kk4 _ _ _ h4 (by omega)
        have h5 := kk4 _ _ _ h5 (by omega)
        have h6 := kk4 _ _ _ h6 (by omega)
        have hy : w5 x = some (50, oM a0 a1 a2 a3 a4 a5 a6 n 0 (nI (fl k)) (nI k) c2 c3 c4 c5 (wayA ((n, kd, th, ca), rw, (an, fl), (c0, c1, c2, c3, c4, c5)) (nI k) (nI (i + 1)) b)) := by rw [ew5]; exact mset_self ..
        have ka := ka.tr (kk4.mono (fun t ht => by unfold NT at ht; omega))
        refine lv_aload_n hx hb dX2_call_119 rfl (lv_at hl 1 rfl) ?_
        refine lv_iload_n hx hb dX2_call_120 rfl (lv_at hl 3 rfl) ?_
        refine r_put (v := .int (nI (i + 1))) M cdX2 hP hy 11 (by decide) q566 (fun _ h9 => h9) rfl rfl rfl (Nat.le_of_ble_eq_true rfl) dX2_call_121 (fun H locs hP => ?_)
        obtain ⟨w6, ew6⟩ : ∃ z : mm, z = mset w5 x (50, oM a0 a1 a2 a3 a4 a5 a6 n 0 (nI (fl k)) (nI k) (nI (i + 1)) c3 c4 c5 (wayA ((n, kd, th, ca), rw, (an, fl), (c0, c1, c2, c3, c4, c5)) (nI k) (nI (i + 1)) b)) := ⟨_, rfl⟩
        have hP := Px.re ew6 hP
        have kk5 : Kp (fun t => t ≠ 50) w5 w6 := by rw [ew6]; exact Kp.put hy (fun z => z rfl)
        have h0 := kk5 _ _ _ h0 (by omega)
        have h1 := kk5 _ _ _ h1 (by omega)
        have h2 := kk5 _ _ _ h2 (by omega)
        have h3 := kk5 _ _ _ h3 (by omega)
        have h4 := kk5 _ _ _ h4 (by omega)
        have h5 := kk5 _ _ _ h5 (by omega)
        have h6 := kk5 _ _ _ h6 (by omega)
        have hy : w6 x = some (50, oM a0 a1 a2 a3 a4 a5 a6 n 0 (nI (fl k)) (nI k) (nI (i + 1)) c3 c4 c5 (wayA ((n, kd, th, ca), rw, (an, fl), (c0, c1, c2, c3, c4, c5)) (nI k) (nI (i + 1)) b)) := by rw [ew6]; exact mset_self ..
        have ka := ka.tr (kk5.mono (fun t ht => by unfold NT at ht; omega))
        refine lv_aload_n hx hb dX2_call_124 rfl (lv_at hl 1 rfl) ?_
        refine lv_dup hx hb dX2_call_125 rfl ?_
        refine r_get M cdX2 hP hy 12 (by decide) q567 (fun _ h9 => h9) rfl dX2_call_126 ?_
        refine lv_iconst (v := 1) hx hb dX2_call_129 (by decide) ?_
        refine lv_iadd hx hb dX2_call_130 ?_
        refine r_put (v := .int (c3 + 1)) M cdX2 hP hy 12 (by decide) q567 (fun _ h9 => h9) rfl rfl rfl (Nat.le_of_ble_eq_true rfl) dX2_call_131 (fun H locs hP => ?_)
        obtain ⟨w7, ew7⟩ : ∃ z : mm, z = mset w6 x (50, oM a0 a1 a2 a3 a4 a5 a6 n 0 (nI (fl k)) (nI k) (nI (i + 1)) (c3 + 1) c4 c5 (wayA ((n, kd, th, ca), rw, (an, fl), (c0, c1, c2, c3, c4, c5)) (nI k) (nI (i + 1)) b)) := ⟨_, rfl⟩
        have hP := Px.re ew7 hP
        have kk6 : Kp (fun t => t ≠ 50) w6 w7 := by rw [ew7]; exact Kp.put hy (fun z => z rfl)
        have h0 := kk6 _ _ _ h0 (by omega)
        have h1 := kk6 _ _ _ h1 (by omega)
        have h2 := kk6 _ _ _ h2 (by omega)
        have h3 := kk6 _ _ _ h3 (by omega)
        have h4 := kk6 _ _ _ h4 (by omega)
        have h5 := kk6 _ _ _ h5 (by omega)
        have h6 := kk6 _ _ _ h6 (by omega)
        have hy : w7 x = some (50, oM a0 a1 a2 a3 a4 a5 a6 n 0 (nI (fl k)) (nI k) (nI (i + 1)) (c3 + 1) c4 c5 (wayA ((n, kd, th, ca), rw, (an, fl), (c0, c1, c2, c3, c4, c5)) (nI k) (nI (i + 1)) b)) := by rw [ew7]; exact mset_self ..
        have ka := ka.tr (kk6.mono (fun t ht => by unfold NT at ht; omega))
        refine lv_lload hx hb dX2_call_134 (lv_at hl 0 rfl) ?_
        have g5 : ∀ j, j < n → upd f5 i 0 j = if va_up th i false j = true then 1 else 0 := fun j hj => by
          by_cases hji : j = i
          · rw [hji, pk_us, va_up_self, if_neg (by decide)]
          · rw [pk_un hji, va_up_ne _ _ hji, g5 j hj]
        exact r_lret M hr hlk hP ⟨rfl, by rw [fCall_yes hf hk hi, fDone, if_neg hf0]; exact ⟨(wayA ((n, kd, th, ca), rw, (an, fl), (c0, c1, c2, c3, c4, c5)) (nI k) (nI (i + 1)) b), a0, a1, a2, a3, a4, a5, a6, 0, e0, e1, f2, f3, f4, (upd f5 i 0), f6, hy, ⟨h0, g0⟩, ⟨h1, g1⟩, ⟨h2, g2⟩, ⟨h3, g3⟩, ⟨h4, g4⟩, ⟨h5, g5⟩, ⟨h6, g6⟩⟩, ka⟩ dX2_call_136 (Nat.le_of_ble_eq_true rfl) (Nat.le_of_ble_eq_true rfl)
    by_cases h8 : k < 8
    · refine lv_iload hx hb dX2_call_41 (lv_at hl 0 rfl) ?_
      refine lv_iconst (v := (-1)) hx hb dX2_call_43 (by decide) ?_
      rw [if_pos h8]
      refine lv_icmp_eq (tgt := 63) hx hb dX2_call_44 (by decide) (fun _ => ?_) (fun c9 => absurd (rfl) c9)
      have hl := lv_sub (l' := [(5, .long (fAgain ((n, kd, th, ca), rw, (an, fl), (c0, c1, c2, c3, c4, c5)) (nI k) (nI (i + 1)) b)), (0, .ref x), (1, .int (nI k)), (2, .int (nI (i + 1))), (3, .long b)]) hl [1, 2, 3, 4, 5] rfl
      exact tail w2 f0 f1 H locs ls hy h0 (by rw [clrA, if_pos h8]; exact g0) h1 (by rw [clrA, if_pos h8]; exact g1) Kp.rf hP hl
    · have hk4 : k % 4 < 4 := Nat.mod_lt _ (by decide)
      have hl : lv_has ls 8 [(7, .int (nI (k % 4))), (5, .long (fAgain ((n, kd, th, ca), rw, (an, fl), (c0, c1, c2, c3, c4, c5)) (nI k) (nI (i + 1)) b)), (0, .ref x), (1, .int (nI k)), (2, .int (nI (i + 1))), (3, .long b)] := by rw [if_neg h8] at hl; exact hl
      refine lv_iload hx hb dX2_call_41 (lv_at hl 0 rfl) ?_
      refine lv_iconst (v := (-1)) hx hb dX2_call_43 (by decide) ?_
      refine lv_icmp_eq (tgt := 63) hx hb dX2_call_44 (by decide) (fun c9 => absurd c9 (nI_m1 (by omega))) (fun _ => ?_)
      refine lv_aload_n hx hb dX2_call_47 rfl (lv_at hl 2 rfl) ?_
      refine r_get M cdX2 hP hy 0 (by decide) q555 (fun _ h9 => h9) rfl dX2_call_48 ?_
      refine lv_iload hx hb dX2_call_51 (lv_at hl 0 rfl) ?_
      refine lv_lconst (v := 0) hx hb dX2_call_53 (by decide) ?_
      refine r_last M hP h0 (vp_in_nI hk4 (by decide)) dX2_call_54 (fun H locs hP => ?_)
      rw [nI_clamp (by omega)] at hP
      obtain ⟨w3, ew3⟩ : ∃ z : mm, z = mset w2 a0 (51, eJ G 4 (vp_updL f0 (k % 4) 0)) := ⟨_, rfl⟩
      have hP := Px.re ew3 hP
      have kk2 : Kp (fun t => t ≠ 51) w2 w3 := by rw [ew3]; exact Kp.put h0 (fun z => z rfl)
      have h1 := kk2 _ _ _ h1 (by omega)
      have h2 := kk2 _ _ _ h2 (by omega)
      have h3 := kk2 _ _ _ h3 (by omega)
      have h4 := kk2 _ _ _ h4 (by omega)
      have h5 := kk2 _ _ _ h5 (by omega)
      have h6 := kk2 _ _ _ h6 (by omega)
      have hy := kk2 _ _ _ hy (by omega)
      have h0 : w3 a0 = some (51, eJ G 4 (vp_updL f0 (k % 4) 0)) := by rw [ew3]; exact mset_self ..
      have ka := ka.tr (kk2.mono (fun t ht => by unfold NT at ht; omega))
      refine lv_aload_n hx hb dX2_call_55 rfl (lv_at hl 2 rfl) ?_
      refine r_get M cdX2 hP hy 1 (by decide) q556 (fun _ h9 => h9) rfl dX2_call_56 ?_
      refine lv_iload hx hb dX2_call_59 (lv_at hl 0 rfl) ?_
      refine lv_iconst (v := 0) hx hb dX2_call_61 (by decide) ?_
      refine r_iast M hP h1 (vp_in_nI hk4 (by decide)) dX2_call_62 (fun H locs hP => ?_)
      rw [nI_clamp (by omega)] at hP
      obtain ⟨w4, ew4⟩ : ∃ z : mm, z = mset w3 a1 (52, eI G 4 (upd f1 (k % 4) 0)) := ⟨_, rfl⟩
      have hP := Px.re ew4 hP
      have kk3 : Kp (fun t => t ≠ 52) w3 w4 := by rw [ew4]; exact Kp.put h1 (fun z => z rfl)
      have h0 := kk3 _ _ _ h0 (by omega)
      have h2 := kk3 _ _ _ h2 (by omega)
      have h3 := kk3 _ _ _ h3 (by omega)
      have h4 := kk3 _ _ _ h4 (by omega)
      have h5 := kk3 _ _ _ h5 (by omega)
      have h6 := kk3 _ _ _ h6 (by omega)
      have hy := kk3 _ _ _ hy (by omega)
      have h1 : w4 a1 = some (52, eI G 4 (upd f1 (k % 4) 0)) := by rw [ew4]; exact mset_self ..
      have ka := ka.tr (kk3.mono (fun t ht => by unfold NT at ht; omega))
      have hl := lv_sub (l' := [(5, .long (fAgain ((n, kd, th, ca), rw, (an, fl), (c0, c1, c2, c3, c4, c5)) (nI k) (nI (i + 1)) b)), (0, .ref x), (1, .int (nI k)), (2, .int (nI (i + 1))), (3, .long b)]) hl [1, 2, 3, 4, 5] rfl
      exact tail w4 (vp_updL f0 (k % 4) 0) (upd f1 (k % 4) 0) H locs ls hy h0 (fun j hj => by
          rw [clrA, if_neg h8]
          by_cases hjk : j = k % 4
          · rw [hjk, pk_uLs, va_up_self]; rfl
          · rw [pk_uLn hjk, va_up_ne _ _ hjk, g0 j hj]) h1 (fun j hj => by
          rw [clrA, if_neg h8]
          by_cases hjk : j = k % 4
          · rw [hjk, pk_us, va_up_self]; rfl
          · rw [pk_un hjk, va_up_ne _ _ hjk, g1 j hj]) ((kk2.mono (fun t ht => ht.1)).tr (kk3.mono (fun t ht => ht.2))) hP hl
  · refine lv_icmp_ne (tgt := 35) hx hb dX2_call_19 (by decide) (fun c9 => absurd (wayA_no hf) c9) (fun _ => ?_)
    refine lv_aload_n hx hb dX2_call_22 rfl (lv_at hl 1 rfl) ?_
    refine lv_dup hx hb dX2_call_23 rfl ?_
    refine r_get M cdX2 hP hy 13 (by decide) q568 (fun _ h9 => h9) rfl dX2_call_24 ?_
    refine lv_iconst (v := 1) hx hb dX2_call_27 (by decide) ?_
    refine lv_iadd hx hb dX2_call_28 ?_
    refine r_put (v := .int (c4 + 1)) M cdX2 hP hy 13 (by decide) q568 (fun _ h9 => h9) rfl rfl rfl (Nat.le_of_ble_eq_true rfl) dX2_call_29 (fun H locs hP => ?_)
    obtain ⟨w3, ew3⟩ : ∃ z : mm, z = mset w2 x (50, oM a0 a1 a2 a3 a4 a5 a6 n 0 c0 c1 c2 c3 (c4 + 1) c5 (wayA ((n, kd, th, ca), rw, (an, fl), (c0, c1, c2, c3, c4, c5)) q num b)) := ⟨_, rfl⟩
    have hP := Px.re ew3 hP
    have kk2 : Kp (fun t => t ≠ 50) w2 w3 := by rw [ew3]; exact Kp.put hy (fun z => z rfl)
    have h0 := kk2 _ _ _ h0 (by omega)
    have h1 := kk2 _ _ _ h1 (by omega)
    have h2 := kk2 _ _ _ h2 (by omega)
    have h3 := kk2 _ _ _ h3 (by omega)
    have h4 := kk2 _ _ _ h4 (by omega)
    have h5 := kk2 _ _ _ h5 (by omega)
    have h6 := kk2 _ _ _ h6 (by omega)
    have hy : w3 x = some (50, oM a0 a1 a2 a3 a4 a5 a6 n 0 c0 c1 c2 c3 (c4 + 1) c5 (wayA ((n, kd, th, ca), rw, (an, fl), (c0, c1, c2, c3, c4, c5)) q num b)) := by rw [ew3]; exact mset_self ..
    have ka := ka.tr (kk2.mono (fun t ht => by unfold NT at ht; omega))
    refine lv_lload hx hb dX2_call_32 (lv_at hl 0 rfl) ?_
    exact r_lret M hr hlk hP ⟨rfl, by rw [fCall_no hf]; exact ⟨(wayA ((n, kd, th, ca), rw, (an, fl), (c0, c1, c2, c3, c4, c5)) q num b), a0, a1, a2, a3, a4, a5, a6, 0, f0, f1, f2, f3, f4, f5, f6, hy, ⟨h0, g0⟩, ⟨h1, g1⟩, ⟨h2, g2⟩, ⟨h3, g3⟩, ⟨h4, g4⟩, ⟨h5, g5⟩, ⟨h6, g6⟩⟩, ka⟩ dX2_call_34 (Nat.le_of_ble_eq_true rfl) (Nat.le_of_ble_eq_true rfl)
set_option maxHeartbeats 4000000 in
set_option maxRecDepth 100000 in
/-- MainframeDeskModel() -/
theorem m_minit {l : Launch} {s0 : State} {D : va_G} {G ad : Nat → Nat} {w : mm} (E : Bs l s0 D G ad) {x : Nat} (h : w x = some (50, .inr (2, [.null, .null, .null, .null, .null, .null, .null, .int 0, .int 0, .int 0, .int 0, .int 0, .int 0, .int 0, .int 0, .int 0]))) : Mt l yX2_init cX2_init 1 (none) (rmk 1 7 672 12) [.ref x] s0 D w (Qv s0 D (fun w1 => MD G w1 x A0 ∧ Kp NT w w1)) := by
  refine Met.go E (by decide +kernel) (Nat.le_of_ble_eq_true rfl) (fun p ev s m below meth c ls M hr hlk hnm hl hP => ?_)
  have hx := M.1.1
  have hb := M.1.2.1
  have hl : lv_has ls 1 [(0, .ref x)] := hl
  refine lv_aload_n hx hb dX2_init_0 rfl (lv_at hl 0 rfl) ?_
  refine W.objInit hx hb M.1.2.2.2.1 (M.1.2.2.2.2 _ q554) (M.1.2.2.2.2 _ q49) (M.1.2.2.2.2 _ q50) rfl (by rw [M.1.2.2.1]; exact hl.1) rfl dX2_init_1 (Nat.le_of_ble_eq_true rfl) (Nat.le_of_ble_eq_true rfl) ?_
  have hy := h
  have ka : Kp NT w w := Kp.rf
  refine lv_aload_n hx hb dX2_init_4 rfl (lv_at hl 0 rfl) ?_
  refine lv_iconst (v := 4) hx hb dX2_init_5 (by decide) ?_
  refine r_newJ M hP 51 (by decide) (N' := 4) (by decide +kernel) (by decide) (Nat.le_of_ble_eq_true rfl) (Nat.le_of_ble_eq_true rfl) dX2_init_6 (fun a0 H na hP => ?_)
  obtain ⟨v0, ev0⟩ : ∃ z : mm, z = mset w a0 (51, eJ G 4 (fun _ => 0)) := ⟨_, rfl⟩
  have hP := Px.re ev0 hP
  have kn : Kp (fun _ => True) w v0 := by rw [ev0]; exact Kp.new na
  have hy := kn _ _ _ hy trivial
  have h0 : v0 a0 = some (51, eJ G 4 (fun _ => 0)) := by rw [ev0]; exact mset_self ..
  refine r_putF (v := .ref a0) M cdX2 hP hy 0 (by decide) q555 (fun _ h9 => h9) rfl hnm rfl rfl rfl (Nat.le_of_ble_eq_true rfl) dX2_init_8 (fun H locs hP => ?_)
  obtain ⟨u0, eu0⟩ : ∃ z : mm, z = mset v0 x (50, .inr (2, [.ref a0, .null, .null, .null, .null, .null, .null, .int 0, .int 0, .int 0, .int 0, .int 0, .int 0, .int 0, .int 0, .int 0])) := ⟨_, rfl⟩
  have hP := Px.re eu0 hP
  have kp : Kp (fun t => t ≠ 50) v0 u0 := by rw [eu0]; exact Kp.put hy (fun z => z rfl)
  have h0 := kp _ _ _ h0 (by omega)
  have hy : u0 x = some (50, .inr (2, [.ref a0, .null, .null, .null, .null, .null, .null, .int 0, .int 0, .int 0, .int 0, .int 0, .int 0, .int 0, .int 0, .int 0])) := by rw [eu0]; exact mset_self ..
  have ka := ka.tr ((kn.mono (fun _ _ => trivial)).tr (kp.mono (fun t ht => by unfold NT at ht; omega)))
  refine lv_aload_n hx hb dX2_init_11 rfl (lv_at hl 0 rfl) ?_
  refine lv_iconst (v := 4) hx hb dX2_init_12 (by decide) ?_
  refine r_newI M hP 52 (by decide) (N' := 4) (by decide +kernel) (by decide) (Nat.le_of_ble_eq_true rfl) (Nat.le_of_ble_eq_true rfl) dX2_init_13 (fun a1 H na hP => ?_)
  obtain ⟨v1, ev1⟩ : ∃ z : mm, z = mset u0 a1 (52, eI G 4 (fun _ => 0)) := ⟨_, rfl⟩
  have hP := Px.re ev1 hP
  have kn : Kp (fun _ => True) u0 v1 := by rw [ev1]; exact Kp.new na
  have h0 := kn _ _ _ h0 trivial
  have hy := kn _ _ _ hy trivial
  have h1 : v1 a1 = some (52, eI G 4 (fun _ => 0)) := by rw [ev1]; exact mset_self ..
  refine r_putF (v := .ref a1) M cdX2 hP hy 1 (by decide) q556 (fun _ h9 => h9) rfl hnm rfl rfl rfl (Nat.le_of_ble_eq_true rfl) dX2_init_15 (fun H locs hP => ?_)
  obtain ⟨u1, eu1⟩ : ∃ z : mm, z = mset v1 x (50, .inr (2, [.ref a0, .ref a1, .null, .null, .null, .null, .null, .int 0, .int 0, .int 0, .int 0, .int 0, .int 0, .int 0, .int 0, .int 0])) := ⟨_, rfl⟩
  have hP := Px.re eu1 hP
  have kp : Kp (fun t => t ≠ 50) v1 u1 := by rw [eu1]; exact Kp.put hy (fun z => z rfl)
  have h0 := kp _ _ _ h0 (by omega)
  have h1 := kp _ _ _ h1 (by omega)
  have hy : u1 x = some (50, .inr (2, [.ref a0, .ref a1, .null, .null, .null, .null, .null, .int 0, .int 0, .int 0, .int 0, .int 0, .int 0, .int 0, .int 0, .int 0])) := by rw [eu1]; exact mset_self ..
  have ka := ka.tr ((kn.mono (fun _ _ => trivial)).tr (kp.mono (fun t ht => by unfold NT at ht; omega)))
  refine lv_aload_n hx hb dX2_init_18 rfl (lv_at hl 0 rfl) ?_
  refine lv_bipush (v := 32) hx hb dX2_init_19 (by decide) ?_
  refine r_newJ M hP 53 (by decide) (N' := 32) (by decide +kernel) (by decide) (Nat.le_of_ble_eq_true rfl) (Nat.le_of_ble_eq_true rfl) dX2_init_21 (fun a2 H na hP => ?_)
  obtain ⟨v2, ev2⟩ : ∃ z : mm, z = mset u1 a2 (53, eJ G 32 (fun _ => 0)) := ⟨_, rfl⟩
  have hP := Px.re ev2 hP
  have kn : Kp (fun _ => True) u1 v2 := by rw [ev2]; exact Kp.new na
  have h0 := kn _ _ _ h0 trivial
  have h1 := kn _ _ _ h1 trivial
  have hy := kn _ _ _ hy trivial
  have h2 : v2 a2 = some (53, eJ G 32 (fun _ => 0)) := by rw [ev2]; exact mset_self ..
  refine r_putF (v := .ref a2) M cdX2 hP hy 2 (by decide) q557 (fun _ h9 => h9) rfl hnm rfl rfl rfl (Nat.le_of_ble_eq_true rfl) dX2_init_23 (fun H locs hP => ?_)
  obtain ⟨u2, eu2⟩ : ∃ z : mm, z = mset v2 x (50, .inr (2, [.ref a0, .ref a1, .ref a2, .null, .null, .null, .null, .int 0, .int 0, .int 0, .int 0, .int 0, .int 0, .int 0, .int 0, .int 0])) := ⟨_, rfl⟩
  have hP := Px.re eu2 hP
  have kp : Kp (fun t => t ≠ 50) v2 u2 := by rw [eu2]; exact Kp.put hy (fun z => z rfl)
  have h0 := kp _ _ _ h0 (by omega)
  have h1 := kp _ _ _ h1 (by omega)
  have h2 := kp _ _ _ h2 (by omega)
  have hy : u2 x = some (50, .inr (2, [.ref a0, .ref a1, .ref a2, .null, .null, .null, .null, .int 0, .int 0, .int 0, .int 0, .int 0, .int 0, .int 0, .int 0, .int 0])) := by rw [eu2]; exact mset_self ..
  have ka := ka.tr ((kn.mono (fun _ _ => trivial)).tr (kp.mono (fun t ht => by unfold NT at ht; omega)))
  refine lv_aload_n hx hb dX2_init_26 rfl (lv_at hl 0 rfl) ?_
  refine lv_bipush (v := 32) hx hb dX2_init_27 (by decide) ?_
  refine r_newI M hP 54 (by decide) (N' := 32) (by decide +kernel) (by decide) (Nat.le_of_ble_eq_true rfl) (Nat.le_of_ble_eq_true rfl) dX2_init_29 (fun a3 H na hP => ?_)
  obtain ⟨v3, ev3⟩ : ∃ z : mm, z = mset u2 a3 (54, eI G 32 (fun _ => 0)) := ⟨_, rfl⟩
  have hP := Px.re ev3 hP
  have kn : Kp (fun _ => True) u2 v3 := by rw [ev3]; exact Kp.new na
  have h0 := kn _ _ _ h0 trivial
  have h1 := kn _ _ _ h1 trivial
  have h2 := kn _ _ _ h2 trivial
  have hy := kn _ _ _ hy trivial
  have h3 : v3 a3 = some (54, eI G 32 (fun _ => 0)) := by rw [ev3]; exact mset_self ..
  refine r_putF (v := .ref a3) M cdX2 hP hy 3 (by decide) q558 (fun _ h9 => h9) rfl hnm rfl rfl rfl (Nat.le_of_ble_eq_true rfl) dX2_init_31 (fun H locs hP => ?_)
  obtain ⟨u3, eu3⟩ : ∃ z : mm, z = mset v3 x (50, .inr (2, [.ref a0, .ref a1, .ref a2, .ref a3, .null, .null, .null, .int 0, .int 0, .int 0, .int 0, .int 0, .int 0, .int 0, .int 0, .int 0])) := ⟨_, rfl⟩
  have hP := Px.re eu3 hP
  have kp : Kp (fun t => t ≠ 50) v3 u3 := by rw [eu3]; exact Kp.put hy (fun z => z rfl)
  have h0 := kp _ _ _ h0 (by omega)
  have h1 := kp _ _ _ h1 (by omega)
  have h2 := kp _ _ _ h2 (by omega)
  have h3 := kp _ _ _ h3 (by omega)
  have hy : u3 x = some (50, .inr (2, [.ref a0, .ref a1, .ref a2, .ref a3, .null, .null, .null, .int 0, .int 0, .int 0, .int 0, .int 0, .int 0, .int 0, .int 0, .int 0])) := by rw [eu3]; exact mset_self ..
  have ka := ka.tr ((kn.mono (fun _ _ => trivial)).tr (kp.mono (fun t ht => by unfold NT at ht; omega)))
  refine lv_aload_n hx hb dX2_init_34 rfl (lv_at hl 0 rfl) ?_
  refine lv_sipush (v := 200) hx hb dX2_init_35 (by decide) ?_
  refine r_newI M hP 55 (by decide) (N' := 200) (by decide +kernel) (by decide) (Nat.le_of_ble_eq_true rfl) (Nat.le_of_ble_eq_true rfl) dX2_init_38 (fun a4 H na hP => ?_)
  obtain ⟨v4, ev4⟩ : ∃ z : mm, z = mset u3 a4 (55, eI G 200 (fun _ => 0)) := ⟨_, rfl⟩
  have hP := Px.re ev4 hP
  have kn : Kp (fun _ => True) u3 v4 := by rw [ev4]; exact Kp.new na
  have h0 := kn _ _ _ h0 trivial
  have h1 := kn _ _ _ h1 trivial
  have h2 := kn _ _ _ h2 trivial
  have h3 := kn _ _ _ h3 trivial
  have hy := kn _ _ _ hy trivial
  have h4 : v4 a4 = some (55, eI G 200 (fun _ => 0)) := by rw [ev4]; exact mset_self ..
  refine r_putF (v := .ref a4) M cdX2 hP hy 4 (by decide) q559 (fun _ h9 => h9) rfl hnm rfl rfl rfl (Nat.le_of_ble_eq_true rfl) dX2_init_40 (fun H locs hP => ?_)
  obtain ⟨u4, eu4⟩ : ∃ z : mm, z = mset v4 x (50, .inr (2, [.ref a0, .ref a1, .ref a2, .ref a3, .ref a4, .null, .null, .int 0, .int 0, .int 0, .int 0, .int 0, .int 0, .int 0, .int 0, .int 0])) := ⟨_, rfl⟩
  have hP := Px.re eu4 hP
  have kp : Kp (fun t => t ≠ 50) v4 u4 := by rw [eu4]; exact Kp.put hy (fun z => z rfl)
  have h0 := kp _ _ _ h0 (by omega)
  have h1 := kp _ _ _ h1 (by omega)
  have h2 := kp _ _ _ h2 (by omega)
  have h3 := kp _ _ _ h3 (by omega)
  have h4 := kp _ _ _ h4 (by omega)
  have hy : u4 x = some (50, .inr (2, [.ref a0, .ref a1, .ref a2, .ref a3, .ref a4, .null, .null, .int 0, .int 0, .int 0, .int 0, .int 0, .int 0, .int 0, .int 0, .int 0])) := by rw [eu4]; exact mset_self ..
  have ka := ka.tr ((kn.mono (fun _ _ => trivial)).tr (kp.mono (fun t ht => by unfold NT at ht; omega)))
  refine lv_aload_n hx hb dX2_init_43 rfl (lv_at hl 0 rfl) ?_
  refine lv_sipush (v := 200) hx hb dX2_init_44 (by decide) ?_
  refine r_newZ M hP 56 (by decide) (N' := 200) (by decide +kernel) (by decide) (Nat.le_of_ble_eq_true rfl) (Nat.le_of_ble_eq_true rfl) dX2_init_47 (fun a5 H na hP => ?_)
  obtain ⟨v5, ev5⟩ : ∃ z : mm, z = mset u4 a5 (56, eZ G 200 (fun _ => 0)) := ⟨_, rfl⟩
  have hP := Px.re ev5 hP
  have kn : Kp (fun _ => True) u4 v5 := by rw [ev5]; exact Kp.new na
  have h0 := kn _ _ _ h0 trivial
  have h1 := kn _ _ _ h1 trivial
  have h2 := kn _ _ _ h2 trivial
  have h3 := kn _ _ _ h3 trivial
  have h4 := kn _ _ _ h4 trivial
  have hy := kn _ _ _ hy trivial
  have h5 : v5 a5 = some (56, eZ G 200 (fun _ => 0)) := by rw [ev5]; exact mset_self ..
  refine r_putF (v := .ref a5) M cdX2 hP hy 5 (by decide) q560 (fun _ h9 => h9) rfl hnm rfl rfl rfl (Nat.le_of_ble_eq_true rfl) dX2_init_49 (fun H locs hP => ?_)
  obtain ⟨u5, eu5⟩ : ∃ z : mm, z = mset v5 x (50, .inr (2, [.ref a0, .ref a1, .ref a2, .ref a3, .ref a4, .ref a5, .null, .int 0, .int 0, .int 0, .int 0, .int 0, .int 0, .int 0, .int 0, .int 0])) := ⟨_, rfl⟩
  have hP := Px.re eu5 hP
  have kp : Kp (fun t => t ≠ 50) v5 u5 := by rw [eu5]; exact Kp.put hy (fun z => z rfl)
  have h0 := kp _ _ _ h0 (by omega)
  have h1 := kp _ _ _ h1 (by omega)
  have h2 := kp _ _ _ h2 (by omega)
  have h3 := kp _ _ _ h3 (by omega)
  have h4 := kp _ _ _ h4 (by omega)
  have h5 := kp _ _ _ h5 (by omega)
  have hy : u5 x = some (50, .inr (2, [.ref a0, .ref a1, .ref a2, .ref a3, .ref a4, .ref a5, .null, .int 0, .int 0, .int 0, .int 0, .int 0, .int 0, .int 0, .int 0, .int 0])) := by rw [eu5]; exact mset_self ..
  have ka := ka.tr ((kn.mono (fun _ _ => trivial)).tr (kp.mono (fun t ht => by unfold NT at ht; omega)))
  refine lv_aload_n hx hb dX2_init_52 rfl (lv_at hl 0 rfl) ?_
  refine lv_sipush (v := 200) hx hb dX2_init_53 (by decide) ?_
  refine r_newJ M hP 57 (by decide) (N' := 200) (by decide +kernel) (by decide) (Nat.le_of_ble_eq_true rfl) (Nat.le_of_ble_eq_true rfl) dX2_init_56 (fun a6 H na hP => ?_)
  obtain ⟨v6, ev6⟩ : ∃ z : mm, z = mset u5 a6 (57, eJ G 200 (fun _ => 0)) := ⟨_, rfl⟩
  have hP := Px.re ev6 hP
  have kn : Kp (fun _ => True) u5 v6 := by rw [ev6]; exact Kp.new na
  have h0 := kn _ _ _ h0 trivial
  have h1 := kn _ _ _ h1 trivial
  have h2 := kn _ _ _ h2 trivial
  have h3 := kn _ _ _ h3 trivial
  have h4 := kn _ _ _ h4 trivial
  have h5 := kn _ _ _ h5 trivial
  have hy := kn _ _ _ hy trivial
  have h6 : v6 a6 = some (57, eJ G 200 (fun _ => 0)) := by rw [ev6]; exact mset_self ..
  refine r_putF (v := .ref a6) M cdX2 hP hy 6 (by decide) q561 (fun _ h9 => h9) rfl hnm rfl rfl rfl (Nat.le_of_ble_eq_true rfl) dX2_init_58 (fun H locs hP => ?_)
  obtain ⟨u6, eu6⟩ : ∃ z : mm, z = mset v6 x (50, .inr (2, [.ref a0, .ref a1, .ref a2, .ref a3, .ref a4, .ref a5, .ref a6, .int 0, .int 0, .int 0, .int 0, .int 0, .int 0, .int 0, .int 0, .int 0])) := ⟨_, rfl⟩
  have hP := Px.re eu6 hP
  have kp : Kp (fun t => t ≠ 50) v6 u6 := by rw [eu6]; exact Kp.put hy (fun z => z rfl)
  have h0 := kp _ _ _ h0 (by omega)
  have h1 := kp _ _ _ h1 (by omega)
  have h2 := kp _ _ _ h2 (by omega)
  have h3 := kp _ _ _ h3 (by omega)
  have h4 := kp _ _ _ h4 (by omega)
  have h5 := kp _ _ _ h5 (by omega)
  have h6 := kp _ _ _ h6 (by omega)
  have hy : u6 x = some (50, .inr (2, [.ref a0, .ref a1, .ref a2, .ref a3, .ref a4, .ref a5, .ref a6, .int 0, .int 0, .int 0, .int 0, .int 0, .int 0, .int 0, .int 0, .int 0])) := by rw [eu6]; exact mset_self ..
  have ka := ka.tr ((kn.mono (fun _ _ => trivial)).tr (kp.mono (fun t ht => by unfold NT at ht; omega)))
  exact r_vret M hr hlk hP ⟨⟨0, a0, a1, a2, a3, a4, a5, a6, 0, fun _ => 0, fun _ => 0, fun _ => 0, fun _ => 0, fun _ => 0, fun _ => 0, fun _ => 0, hy, ⟨h0, fun _ _ => rfl⟩, ⟨h1, fun _ _ => rfl⟩, ⟨h2, fun _ _ => rfl⟩, ⟨h3, fun _ _ => rfl⟩, ⟨h4, fun k hk => absurd hk (Nat.not_lt_zero k)⟩, ⟨h5, fun k hk => absurd hk (Nat.not_lt_zero k)⟩, ⟨h6, fun k hk => absurd hk (Nat.not_lt_zero k)⟩⟩, ka⟩ dX2_init_61 (Nat.le_of_ble_eq_true rfl) (Nat.le_of_ble_eq_true rfl)
end
section
/-! ===== the start: the base state's facts out of the premises ===== -/
theorem st_long {args : Array Value} {s : State} {A : Nat → Prop} {st : Term} (hc : st.closed = true) (hlen : (Term.length st).eval args s none [] s = some (.int (Int32.ofNat 256)))
    (hall : (Cond.all st (.and (.exactly (.elem st (.index 0)) "java/lang/Long") (.eq (.field (.elem st (.index 0)) "java/lang/Long" "value" "J") (.op1 .i2l (.sub (.index 0) (.int 128)))))).before args s = true) (hA : ∀ a : Nat, a < s.heap.size → ¬ A a) :
    ∃ ad : Nat → Nat, (∀ k : Nat, k < 256 → va_O "java/lang/Long" (ad k) A s s.heap ∧ va_OF "java/lang/Long" "value" "J" (.long (lcv k)) (ad k) A s s.heap) ∧ ∀ j : Nat, j < 256 → (Term.elem st (.int (Int32.ofNat j))).eval args s none [] s = some (.ref (ad j)) := by
  obtain ⟨b, cell, ht, hat, hv⟩ := Term.length_spec hlen
  have hsz : ∀ k : Nat, k < 256 → k < cell.slots.size := by
    intro k hk
    apply Nat.not_le.mp
    intro hle
    have e : Int32.ofNat cell.slots.size = Int32.ofNat 256 := (Value.int.inj hv).symm
    have h1 : (Int32.ofNat cell.slots.size).toNatClampNeg = cell.slots.size := Int32.toNatClampNeg_ofNat_of_lt (by omega)
    have h2 : (Int32.ofNat 256).toNatClampNeg = 256 := Int32.toNatClampNeg_ofNat_of_lt (by omega)
    rw [e, h2] at h1
    omega
  have hall' := Cond.all_elim ht hat (by simpa [Cond.before, Cond.holds] using hall)
  have h0 : ∀ k : Nat, ∃ a : Nat, k < 256 → (Term.elem st (.int (Int32.ofNat k))).eval args s none [] s = some (.ref a) ∧ va_O "java/lang/Long" a A s s.heap ∧ va_OF "java/lang/Long" "value" "J" (.long (lcv k)) a A s s.heap := by
    intro k
    by_cases hk : k < 256
    · obtain ⟨hE, hF⟩ := va_andE (hall' k (hsz k hk))
      obtain ⟨a, c, cA, kA, q1, q2, q3, q4, q5, q6, -⟩ := Cond.exactly_spec (args := args) (first := s) (o := none) (s := s) (idx := [k]) (t := .elem st (.index 0)) (cls := "java/lang/Long") (by simp [Cond.holds, hE])
      have hfv := va_eqI hF (v := .long (lcv k)) (by simp [Term.eval, lcv]; rfl)
      refine ⟨a, fun _ => ⟨?_, ⟨cA, q3, q5, by rw [q6]; exact q2, hA a (Array.getElem?_eq_some_iff.mp q3).1⟩, ?_⟩⟩
      · rw [← q1]
        simp only [Term.eval, Term.eval_closed none [k] st s hc]
        rfl
      · cases hfo : s.fieldFound? "java/lang/Long" "value" "J" with
        | none =>
          rw [va_fe q1] at hfv
          simp [State.fieldOf?, State.fieldNamed?, hfo] at hfv
        | some x =>
          obtain ⟨cf, kf, fi, f⟩ := x
          obtain ⟨g1, cell2, g2, g3, -, -, g6⟩ := Term.field_spec hfo q1 hfv
          exact ⟨cf, kf, fi, f, cell2, hfo, g1, g2, g3, g6, hA _ (Array.getElem?_eq_some_iff.mp g2).1⟩
    · exact ⟨0, fun h => absurd h hk⟩
  obtain ⟨ad, had⟩ := Classical.axiomOfChoice h0
  exact ⟨ad, fun k hk => (had k hk).2, fun k hk => (had k hk).1⟩
/-- two statics that aren't the same -/
theorem st_ne {args : Array Value} {s : State} {t u : Term} {a b : Nat} (h : (Cond.not (.eq t u)).before args s = true) (ht : t.eval args s none [] s = some (.ref a)) (hu : u.eval args s none [] s = some (.ref b)) : a ≠ b := fun e => by
  subst e
  have h1 := Cond.holds_not_iff.mp h
  simp [Cond.value, ht, hu] at h1
set_option maxHeartbeats 4000000 in
set_option maxRecDepth 100000 in
theorem Bs.start {l : Launch} {s : State} {b : Nat} (hfl : l.flags = flags0) (hts : ∀ w ∈ lw_tbl, w.before #[Value.ref b] s = true) (hgv : (Jvm.Cond.and given_1 narrow_1).before #[Value.ref b] s = true) : ∃ (D : va_G) (G ad : Nat → Nat), Bs l s D G ad := by
  have hs := flat_of_before _ hgv
  have hal : ∀ w ∈ lw_all, w.before #[Value.ref b] s = true := fun w h => hts w (lw_all_tbl h)
  have hA : ∀ a : Nat, a < s.heap.size → ¬ Fr s a := fun a h q => by unfold Fr at q; omega
  obtain ⟨d0, i0, k0⟩ := u_known hal in_X0 (hal _ q44)
  obtain ⟨d1, i1, k1⟩ := u_known hal in_X1 (hal _ q143)
  obtain ⟨d2, i2, k2⟩ := u_known hal in_X2 (hal _ q550)
  obtain ⟨d3, i3, k3⟩ := u_known hal in_X3 (hal _ q243)
  obtain ⟨d4, i4, k4⟩ := u_known hal in_J2 (hal _ q52)
  obtain ⟨d5, i5, k5⟩ := u_known hal in_J9 (hal _ q215)
  obtain ⟨d6, i6, k6⟩ := u_known hal in_J21 (hal _ q479)
  obtain ⟨e0, x0, y0, z00, z01, z02⟩ := Cond.arrayClass_spec (hal _ q443)
  obtain ⟨e1, x1, y1, z10, z11, z12⟩ := Cond.arrayClass_spec (hal _ q604)
  obtain ⟨e2, x2, y2, z20, z21, z22⟩ := Cond.arrayClass_spec (hal _ q605)
  obtain ⟨y3, e3, x3, z30, -, z31, z32, z33⟩ := Cond.arrayOver_spec (hts _ q133)
  obtain ⟨y4, e4, x4, z40, -, z41, z42, z43⟩ := Cond.arrayOver_spec (hts _ q81)
  obtain ⟨g5, v5, T5⟩ := va_Tof (tm := .static "java/util/ArrayList" "DEFAULTCAPACITY_EMPTY_ELEMENTDATA" "[Ljava/lang/Object;") (ty := .object "java/lang/Object") (N := 0) (f := fun _ => .null) (A := Fr s) (by decide) (hs _ (by decide +kernel)) (va_eqt (hs _ (by decide +kernel))) (fun j hj => absurd hj (Nat.not_lt_zero j)) hA
  obtain ⟨g6, -, -, -, v6, -⟩ := Cond.exactly_spec (hs (.exactly (.static "MainframeDesk$State" "THERE" "LMainframeDesk$State;") "MainframeDesk$State") (by decide +kernel))
  obtain ⟨g7, -, -, -, v7, -⟩ := Cond.exactly_spec (hs (.exactly (.static "MainframeDesk$State" "DROPPED" "LMainframeDesk$State;") "MainframeDesk$State") (by decide +kernel))
  obtain ⟨g8, -, -, -, v8, -⟩ := Cond.exactly_spec (hs (.exactly (.static "MainframeDesk$State" "ENDED" "LMainframeDesk$State;") "MainframeDesk$State") (by decide +kernel))
  have n67 : g6 ≠ g7 := st_ne (hs (.not (.eq (.static "MainframeDesk$State" "THERE" "LMainframeDesk$State;") (.static "MainframeDesk$State" "DROPPED" "LMainframeDesk$State;"))) (by decide +kernel)) v6 v7
  have n68 : g6 ≠ g8 := st_ne (hs (.not (.eq (.static "MainframeDesk$State" "THERE" "LMainframeDesk$State;") (.static "MainframeDesk$State" "ENDED" "LMainframeDesk$State;"))) (by decide +kernel)) v6 v8
  have hlen : (Term.length (.static "java/lang/Long$LongCache" "cache" "[Ljava/lang/Long;")).eval #[Value.ref b] s none [] s = some (.int (Int32.ofNat 256)) := va_eqt (z := 256) (hs _ (by decide +kernel))
  obtain ⟨ad, had, hel⟩ := st_long (st := .static "java/lang/Long$LongCache" "cache" "[Ljava/lang/Long;") (A := Fr s) rfl hlen (hs _ (by decide +kernel)) hA
  obtain ⟨g9, v9, T9⟩ := va_Tof (tm := .static "java/lang/Long$LongCache" "cache" "[Ljava/lang/Long;") (ty := .object "java/lang/Long") (N := 256) (f := fun k => .ref (ad k)) (A := Fr s) (by decide) (hs _ (by decide +kernel)) hlen hel hA
  obtain ⟨g10, mi⟩ := va_Mi.of (C := "[Ljava/lang/Object;") (hs _ (by decide +kernel))
  refine ⟨(fun c => match c with | 0 => d0 | 1 => d1 | 2 => d2 | 3 => d3 | 4 => d4 | 5 => d5 | _ => d6, fun c => match c with | 0 => i0 | 1 => i1 | 2 => i2 | 3 => i3 | 4 => i4 | 5 => i5 | _ => i6), (fun k => match k with | 0 => e0 | 1 => e1 | 2 => e2 | 3 => e3 | 4 => e4 | 5 => g5 | 6 => g6 | 7 => g7 | 8 => g8 | 9 => g9 | _ => g10), ad, hfl, ⟨b, hts, hgv⟩, ⟨fun c q hq => ?_, fun k q hq => ?_⟩, ⟨va_Zof (hts _ q64) (hal _ q15) v5 hA, T5⟩, ⟨va_Zof (hts _ q249) (hal _ q29) v6 hA, va_Zof (hts _ q277) (hal _ q29) v7 hA, va_Zof (hts _ q531) (hal _ q29) v8 hA, n67, n68⟩, ⟨va_Zof (hts _ q213) (hal _ q26) v9 hA, T9, had⟩, mi⟩
  · have hc : c < 7 := (List.getElem?_eq_some_iff.mp hq).1
    have hc : c = 0 ∨ c = 1 ∨ c = 2 ∨ c = 3 ∨ c = 4 ∨ c = 5 ∨ c = 6 := by omega
    rcases hc with rfl | rfl | rfl | rfl | rfl | rfl | rfl
    · obtain rfl := Option.some.inj hq; exact k0
    · obtain rfl := Option.some.inj hq; exact k1
    · obtain rfl := Option.some.inj hq; exact k2
    · obtain rfl := Option.some.inj hq; exact k3
    · obtain rfl := Option.some.inj hq; exact k4
    · obtain rfl := Option.some.inj hq; exact k5
    · obtain rfl := Option.some.inj hq; exact k6
  · have hk : k < 5 := (List.getElem?_eq_some_iff.mp hq).1
    have hk : k = 0 ∨ k = 1 ∨ k = 2 ∨ k = 3 ∨ k = 4 := by omega
    rcases hk with rfl | rfl | rfl | rfl | rfl
    · obtain rfl := Option.some.inj hq; exact ⟨fun n z => ⟨fun _ h => (by cases h), x0, z01, y0, z02⟩, z00⟩
    · obtain rfl := Option.some.inj hq; exact ⟨fun n z => ⟨fun _ h => (by cases h), x1, z11, y1, z12⟩, z10⟩
    · obtain rfl := Option.some.inj hq; exact ⟨fun n z => ⟨fun _ h => (by cases h), x2, z21, y2, z22⟩, z20⟩
    · obtain rfl := Option.some.inj hq; exact ⟨fun n z => ⟨fun _ h => (by cases h), x3, z31, y3, z32⟩, x3, y3, z31, z32, z30, z33⟩
    · obtain rfl := Option.some.inj hq; exact ⟨fun n z => ⟨fun _ h => (by cases h), x4, z41, y4, z42⟩, x4, y4, z41, z42, z40, z43⟩
end
section
/-! ===== the law ===== -/
def R_law : String := "MainframeDeskLaw"
def lw_P (b : Addr) (xs : List Int32) (args : Array Value) (s : State) : Prop := args = #[.ref b] ∧ s.IntsAt b xs ∧ xs.length ≤ 320 ∧ (Jvm.Cond.and given_1 narrow_1).before args s = true
def lw_Q (_ : Array Value) (s : State) (o : Outcome) (t : State) : Prop := o = .returned (some (.int 1)) ∧ Framed s o t [] 600384 7288298
def lw_Z (below : List Frame) (a : Array Value) (s : State) : State → Prop := fun t => ∃ o, t.status = .running ∧ Ended t below o ∧ lw_Q a s o t
theorem lw_ret {p : Program} {l : Launch} {e : Env} {s : State} {m : MethodId} {below : List Frame} {meth : Method} {c : Code} {b : Nat} (hx : p.tables.exec = Jvm.exec) (hb : c.code = code) (hr : meth.sig.returnType = ret) (hlocks : meth.locks = false) {pc : Nat} {H : Heap} {ls : Array Slot} (hdg : decode code pc = .ok (.ireturn, 1)) : W p l e room_1 s m #[Value.ref b] below meth c H [] 600384 7288298 (lw_Z below #[Value.ref b] s) (F0 m pc ls [.int 1]) := by
  intro T hT X
  obtain ⟨fs, hret, hrun, hended, hW, hframe⟩ := X.leave (v := some (.int 1)) (hlocks := hlocks) (fun h => by rw [hr] at h; cases h)
  have hmeth' : T.vm.method? m = some meth := X.method'
  refine ⟨T.setFrames fs, ?_, .returned (some (.int 1)), hrun, hended, rfl, ⟨_, rfl⟩, hW, hframe⟩
  jvm_step X.here [X.here.top, hx, hb, hdg, hmeth', hr, ret, narrow_b1]
  (try refine ⟨rfl, ?_⟩); (try refine ⟨rfl, ?_⟩)
  first | (intro acts; rw [hret _ acts rfl rfl rfl]) | rw [hret _ _ rfl rfl rfl]
  exact Steps.refl _
def lw_At (p : Program) (s : State) (m : MethodId) (meth : Method) (c : Code) (b L : Nat) (xs : Nat → Int32) : Prop :=
  p.tables.exec = Jvm.exec ∧ c.code = code ∧ meth.sig.returnType = ret ∧ c.maxLocals = 4 ∧ s.vm.findClass R_law = some m.cls ∧ (∀ w ∈ lw_tbl, w.before #[Value.ref b] s = true) ∧ va_X b L xs s s.heap ∧ b < s.heap.size ∧ meth.locks = false ∧ (Jvm.Cond.and given_1 narrow_1).before #[Value.ref b] s = true
/-! what stays true of the abstract state -/
theorem WF.up {N : Nat} {A : Ab} (h : WF N A) (hN : N + 1 < 2 ^ 20) : WF (N + 1) A := by
  obtain ⟨⟨n, kd, th, ca⟩, rw, ⟨an, fl⟩, cs⟩ := A
  obtain ⟨h1, h2, h3, h4, h5⟩ := h
  exact ⟨h1, h2, h3, fun i => Nat.le_succ_of_le (h4 i), hN⟩
theorem wf_collect {N : Nat} {A : Ab} (h : WF N A) (hN : N + 1 < 2 ^ 20) (q : Int32) (v : Int64) : WF (N + 1) (fCollect A q v).2 := by
  obtain ⟨⟨n, kd, th, ca⟩, rw, ⟨an, fl⟩, cs⟩ := A
  simp only [fCollect]
  cases ixo 4 q with
  | none => exact h.up hN
  | some k =>
    dsimp only
    by_cases h50 : (rw k).length = 50
    · rw [if_pos h50]; exact h.up hN
    · rw [if_neg h50]
      obtain ⟨h1, h2, h3, h4, h5⟩ := h
      refine ⟨h1, fun j => ?_, h3, fun i => Nat.le_succ_of_le (h4 i), hN⟩
      by_cases hj : j = k
      · rw [hj, va_up_self, List.length_append]
        have := h2 k
        show (rw k).length + 1 ≤ 50
        omega
      · rw [va_up_ne _ _ hj]; exact h2 j
theorem wf_answer {N : Nat} {A : Ab} (h : WF N A) (hN : N + 1 < 2 ^ 20) (q : Int32) (v : Int64) : WF (N + 1) (fAnswer A q v).2 := by
  obtain ⟨⟨n, kd, th, ca⟩, rw, ⟨an, fl⟩, cs⟩ := A
  simp only [fAnswer]
  cases ixo 32 q with
  | none => exact h.up hN
  | some k => exact h.up hN
theorem ixo_lt {n k : Nat} {x : Int32} (hn : n < 2 ^ 31) (h : ixo n x = some k) : k < n := by
  rcases pk_ix x (n := n) hn with h1 | h1 | ⟨j, hj, rfl⟩
  · rw [ixo_neg h1] at h; cases h
  · rw [ixo_ge h1] at h; cases h
  · rw [ixo_in hj hn] at h; cases h; exact hj
theorem wf_fails {N : Nat} {A : Ab} (h : WF N A) (hN : N + 1 < 2 ^ 20) (q u : Int32) : WF (N + 1) (fFails A q u).2 := by
  obtain ⟨⟨n, kd, th, ca⟩, rw, ⟨an, fl⟩, cs⟩ := A
  simp only [fFails]
  cases h1 : ixo 32 q with
  | none => exact h.up hN
  | some k =>
    cases h2 : ixo 7 u with
    | none => exact h.up hN
    | some j =>
      have hj := ixo_lt (by decide) h2
      obtain ⟨h1, h2, h3, h4, h5⟩ := h
      refine ⟨h1, h2, fun i => ?_, fun i => Nat.le_succ_of_le (h4 i), hN⟩
      show va_up fl k j i ≤ 6
      by_cases hi : i = k
      · rw [hi, va_up_self]; omega
      · rw [va_up_ne _ _ hi]; exact h3 i
theorem wf_make {N : Nat} {A : Ab} (h : WF N A) (hN : N + 1 < 2 ^ 20) (q : Int32) : WF (N + 1) (fMake A q).2 := by
  obtain ⟨⟨n, kd, th, ca⟩, rw, ⟨an, fl⟩, cs⟩ := A
  simp only [fMake]
  cases ixo 8 q with
  | none => exact h.up hN
  | some k =>
    dsimp only
    by_cases h2 : n = 200
    · rw [if_pos h2]; exact h.up hN
    · rw [if_neg h2]
      obtain ⟨h1, h2, h3, h4, h5⟩ := h
      refine ⟨by omega, h2, h3, fun i => ?_, hN⟩
      by_cases hi : i = n
      · rw [hi, va_up_self]; omega
      · rw [va_up_ne _ _ hi]; exact Nat.le_succ_of_le (h4 i)
theorem wf_drop {N : Nat} {A : Ab} (h : WF N A) (hN : N + 1 < 2 ^ 20) (q : Int32) : WF (N + 1) (fDrop A q).2 := by
  obtain ⟨⟨n, kd, th, ca⟩, rw, ⟨an, fl⟩, cs⟩ := A
  simp only [fDrop]
  cases ixt n q with
  | none => exact h.up hN
  | some k =>
    dsimp only
    by_cases h2 : th k = true
    · rw [if_pos h2]; exact h.up hN
    · rw [if_neg h2]; exact h.up hN
theorem wf_call {N : Nat} {A : Ab} (h : WF N A) (hN : N + 1 < 2 ^ 20) (q num : Int32) (a : Int64) : WF (N + 1) (fCall A q num a) := by
  unfold fCall
  by_cases hz : fRef A q num a = 0
  · rw [if_pos hz]
    generalize (ixo 32 q).getD 0 = k
    generalize (ixt A.1.1 num).getD 0 = i
    obtain ⟨⟨n, kd, th, ca⟩, rw, ⟨an, fl⟩, ⟨c0, c1, c2, c3, c4, c5⟩⟩ := A
    obtain ⟨h1, h2, h3, h4, h5⟩ := h
    have hcl : ∀ j, (clrA rw k j).length ≤ 50 := fun j => by
      unfold clrA
      by_cases h8 : k < 8
      · rw [if_pos h8]; exact h2 j
      · rw [if_neg h8]
        by_cases hj : j = k % 4
        · rw [hj, va_up_self]; exact Nat.zero_le _
        · rw [va_up_ne _ _ hj]; exact h2 j
    unfold fDone
    dsimp only
    by_cases hf : fl k = 0
    · rw [if_pos hf]
      refine ⟨h1, hcl, h3, fun j => ?_, hN⟩
      by_cases hj : j = i
      · rw [hj, va_up_self]; exact Nat.succ_le_succ (h4 i)
      · rw [va_up_ne _ _ hj]; exact Nat.le_succ_of_le (h4 j)
    · rw [if_neg hf]
      exact ⟨h1, hcl, h3, fun j => Nat.le_succ_of_le (h4 j), hN⟩
  · rw [if_neg hz]
    obtain ⟨⟨n, kd, th, ca⟩, rw, ⟨an, fl⟩, ⟨c0, c1, c2, c3, c4, c5⟩⟩ := A
    exact h.up hN
theorem law_end {L i : Nat} (hL : L ≤ 320) (hi : i < 2 ^ 20) : (nI L - 5 < nI i) ↔ L < i + 5 := by
  rw [Int32.lt_iff_toInt_lt, show nI L - 5 = nI L - nI 5 from rfl, pk_sub_toInt (by omega) (by decide), nI_toInt (by omega)]
  omega
section LWR
variable {p : Program} {l : Launch} {e : Env} {R : Room} {s : State} {m : MethodId} {args : Array Value} {below : List Frame} {meth : Method} {c : Code} {H : Heap} {locs : List Loc} {cells slots : Nat} {Q : State → Prop}
variable {cc : ByteArray} {nL : Nat} {own : String} {s0 : State} {D : va_G} {G : Nat → Nat} {w : mm} {pc : Nat} {ls : Array Slot} {rest : List Value}
theorem r_sld (M : Mx p m c cc nL s args own s0 D G) (hP : Px s0 D w H locs) {b L i : Nat} {xs : Nat → Int32} (hX : va_X b L xs s0 s0.heap) (hL : L < 2 ^ 31) (hi : i < L) (hdg : decode cc pc = .ok (.iaload, 1))
    (kk : W p l e R s m args below meth c H locs cells slots Q (F0 m (pc + 1) ls (.int (xs i) :: rest))) : W p l e R s m args below meth c H locs cells slots Q (F0 m pc ls (.int (nI i) :: .ref b :: rest)) := by
  have hbl : b < s0.heap.size := by
    obtain ⟨scr, h1, -⟩ := hX
    exact (Array.getElem?_eq_some_iff.mp h1).1
  refine va_sld (A := Fr s0) (H0 := s0.heap) M.1.1 M.1.2.1 (hX.moved M.2.1.alike) hbl (fun q => by unfold Fr at q; omega) ⟨hP.1, fun q h _ => hP.2.1 q h, hP.2.2.2⟩ (vp_in_nI hi hL) hdg ?_
  rw [nI_clamp (by omega)]
  exact kk
theorem r_slen (M : Mx p m c cc nL s args own s0 D G) (hP : Px s0 D w H locs) {b L : Nat} {xs : Nat → Int32} (hX : va_X b L xs s0 s0.heap) (hdg : decode cc pc = .ok (.arraylength, 1))
    (kk : W p l e R s m args below meth c H locs cells slots Q (F0 m (pc + 1) ls (.int (nI L) :: rest))) : W p l e R s m args below meth c H locs cells slots Q (F0 m pc ls (.ref b :: rest)) := by
  have hbl : b < s0.heap.size := by
    obtain ⟨scr, h1, -⟩ := hX
    exact (Array.getElem?_eq_some_iff.mp h1).1
  exact va_slen (A := Fr s0) (H0 := s0.heap) M.1.1 M.1.2.1 (hX.moved M.2.1.alike) hbl (fun q => by unfold Fr at q; omega) ⟨hP.1, fun q h _ => hP.2.1 q h, hP.2.2.2⟩ hdg kk
end LWR

set_option maxHeartbeats 4000000 in
set_option maxRecDepth 100000 in
/-- the law's body, from its entry -/
theorem law_walk {p : Program} {ev : Env} {s : State} {m : MethodId} {below : List Frame} {meth : Method} {c : Code} {l : Launch} {D : va_G} {G ad : Nat → Nat} {w : mm} {ls : Array Slot} {b L : Nat} {xs : Nat → Int32} (E : Bs l s D G ad) (M : Mx p m c code 4 s #[Value.ref b] "MainframeDeskLaw" s D G) (hr : meth.sig.returnType = ret) (hlk : meth.locks = false) (hX : va_X b L xs s s.heap) (hL : L ≤ 320) (hP : Px s D w s.heap []) (hl : lv_has ls 4 [(0, .ref b)]) : W p l ev room_1 s m #[Value.ref b] below meth c s.heap [] 0 0 (lw_Z below #[Value.ref b] s) (F0 m 0 ls []) := by
  have hx := M.1.1
  have hb := M.1.2.1
  have hL31 : L < 2 ^ 31 := by omega
  have loop : ∀ (fu j : Nat) (x y : Nat) (A : Ab) (w' : mm) (H : Heap) (locs : List Loc) (ls : Array Slot), L < 5 * j + 5 * fu → j ≤ 64 → WF j A → DK ad G w' x A → MD G w' y A → Px s D w' H locs → lv_has ls 4 [(3, .int (nI (5 * j))), (0, .ref b), (1, .ref x), (2, .ref y)] → W p l ev room_1 s m #[Value.ref b] below meth c H locs (52 + 8 * j) (2011 + 310 * j) (lw_Z below #[Value.ref b] s) (F0 m 18 ls []) := by
    intro fu
    induction fu with
    | zero =>
      intro j x y A w' H locs ls hfu hj hW hD hM hP hl
      refine lv_iload_n hx hb dL_law_18 rfl (lv_at hl 0 rfl) ?_
      refine lv_aload_n hx hb dL_law_19 rfl (lv_at hl 1 rfl) ?_
      refine r_slen M hP hX dL_law_20 ?_
      refine lv_iconst (v := 5) hx hb dL_law_21 (by decide) ?_
      refine lv_isub hx hb dL_law_22 ?_
      refine lv_icmp_gt (tgt := 489) hx hb dL_law_23 (by decide) (fun _ => ?_) (fun c9 => absurd ((law_end hL (by omega)).mpr (by omega)) c9)
      refine lv_iconst (v := 1) hx hb dL_law_489 (by decide) ?_
      exact W.widen (by omega) (by omega) (va_forget hP.2.2.2 (lw_ret hx hb hr hlk dL_law_490))
    | succ fu ih =>
      intro j x y A w' H locs ls hfu hj hW hD hM hP hl
      refine lv_iload_n hx hb dL_law_18 rfl (lv_at hl 0 rfl) ?_
      refine lv_aload_n hx hb dL_law_19 rfl (lv_at hl 1 rfl) ?_
      refine r_slen M hP hX dL_law_20 ?_
      refine lv_iconst (v := 5) hx hb dL_law_21 (by decide) ?_
      refine lv_isub hx hb dL_law_22 ?_
      by_cases hend : L < 5 * j + 5
      · refine lv_icmp_gt (tgt := 489) hx hb dL_law_23 (by decide) (fun _ => ?_) (fun c9 => absurd ((law_end hL (by omega)).mpr hend) c9)
        refine lv_iconst (v := 1) hx hb dL_law_489 (by decide) ?_
        exact W.widen (by omega) (by omega) (va_forget hP.2.2.2 (lw_ret hx hb hr hlk dL_law_490))
      · refine lv_icmp_gt (tgt := 489) hx hb dL_law_23 (by decide) (fun c9 => absurd c9 (fun z => hend ((law_end hL (by omega)).mp z))) (fun _ => ?_)
        have t483 : ∀ (A' : Ab) (w2 : mm) (H : Heap) (locs : List Loc) (cells slots : Nat), cells ≤ 52 + 8 * (j + 1) → slots ≤ 2011 + 310 * (j + 1) → WF (j + 1) A' → DK ad G w2 x A' → MD G w2 y A' → Px s D w2 H locs → W p l ev room_1 s m #[Value.ref b] below meth c H locs cells slots (lw_Z below #[Value.ref b] s) (F0 m 483 ls []) := by
          intro A' w2 H locs cells slots hc hs hW hD hM hP
          refine lv_iinc (v := (nI (5 * (j + 1)))) (lv' := [(3, .int (nI (5 * (j + 1)))), (0, .ref b), (1, .ref x), (2, .ref y)]) hx hb dL_law_483 hl (k := 0) rfl (nI_add (5 * j) 5) (by decide) rfl (fun ls hl => ?_)
          refine lv_goto (tgt := 18) hx hb dL_law_486 (by decide) ?_
          exact W.widen hc hs (ih (j + 1) x y A' w2 H locs ls (by omega) (by omega) hW hD hM hP hl)
        have hN : j + 1 < 2 ^ 20 := by omega
        obtain ⟨⟨n, kd, th, ca⟩, rw, ⟨an, fl⟩, ⟨c0, c1, c2, c3, c4, c5⟩⟩ := A
        have hW0 := hW
        obtain ⟨hn, hlen, hfl, hca, -⟩ := hW
        have hca2 : ∀ i, ca i < 2 ^ 30 := fun i => by have := hca i; omega
        obtain ⟨s0, e0⟩ : ∃ z, xs (5 * j + 0) = z := ⟨_, rfl⟩
        obtain ⟨s1, e1⟩ : ∃ z, xs (5 * j + 1) = z := ⟨_, rfl⟩
        obtain ⟨s2, e2⟩ : ∃ z, xs (5 * j + 2) = z := ⟨_, rfl⟩
        obtain ⟨s3, e3⟩ : ∃ z, xs (5 * j + 3) = z := ⟨_, rfl⟩
        obtain ⟨s4, e4⟩ : ∃ z, xs (5 * j + 4) = z := ⟨_, rfl⟩
        refine lv_aload_n hx hb dL_law_26 rfl (lv_at hl 1 rfl) ?_
        refine lv_iload_n hx hb dL_law_27 rfl (lv_at hl 0 rfl) ?_
        refine r_sld (i := 5 * j) M hP hX hL31 (by omega) dL_law_28 ?_
        rw [show xs (5 * j) = s0 from e0]
        refine lv_bipush (v := 15) hx hb dL_law_29 (by decide) ?_
        refine lv_iand hx hb dL_law_31 ?_
        obtain ⟨t, ht, hte⟩ := pk_andE s0 (m := 15) 4 (by decide +kernel)
        rw [hte]
        have ht : t = 0 ∨ t = 1 ∨ t = 2 ∨ t = 3 ∨ t = 4 ∨ t = 5 ∨ t = 6 ∨ t = 7 ∨ t = 8 ∨ 9 ≤ t := by omega
        rcases ht with rfl | rfl | rfl | rfl | rfl | rfl | rfl | rfl | rfl | ht
        · refine lv_tableIn (tgt := 84) hx hb dL_law_32 (by decide +kernel) (by decide +kernel) rfl (by decide) ?_
          refine lv_aload_n hx hb dL_law_84 rfl (lv_at hl 2 rfl) ?_
          refine lv_aload_n hx hb dL_law_85 rfl (lv_at hl 1 rfl) ?_
          refine lv_iload_n hx hb dL_law_86 rfl (lv_at hl 0 rfl) ?_
          refine lv_iconst (v := 1) hx hb dL_law_87 (by decide) ?_
          refine lv_iadd hx hb dL_law_88 ?_
          rw [show nI (5 * j) + 1 = nI (5 * j + 1) from nI_add (5 * j) 1]
          refine r_sld M hP hX hL31 (by omega) dL_law_89 ?_
          rw [e1]
          refine lv_aload_n hx hb dL_law_90 rfl (lv_at hl 1 rfl) ?_
          refine lv_iload_n hx hb dL_law_91 rfl (lv_at hl 0 rfl) ?_
          refine lv_iconst (v := 2) hx hb dL_law_92 (by decide) ?_
          refine lv_iadd hx hb dL_law_93 ?_
          rw [show nI (5 * j) + 2 = nI (5 * j + 2) from nI_add (5 * j) 2]
          refine r_sld M hP hX hL31 (by omega) dL_law_94 ?_
          rw [e2]
          refine lv_i2l hx hb dL_law_95 rfl ?_
          refine lv_bipush (v := 32) hx hb dL_law_96 (by decide) ?_
          refine lv_lshl hx hb dL_law_98 rfl ?_
          refine lv_aload_n hx hb dL_law_99 rfl (lv_at hl 1 rfl) ?_
          refine lv_iload_n hx hb dL_law_100 rfl (lv_at hl 0 rfl) ?_
          refine lv_iconst (v := 3) hx hb dL_law_101 (by decide) ?_
          refine lv_iadd hx hb dL_law_102 ?_
          rw [show nI (5 * j) + 3 = nI (5 * j + 3) from nI_add (5 * j) 3]
          refine r_sld M hP hX hL31 (by omega) dL_law_103 ?_
          rw [e3]
          refine lv_i2l hx hb dL_law_104 rfl ?_
          refine lv_ldc2 hx hb M.1.2.2.2.1 (M.1.2.2.2.2 _ q657) dL_law_105 ?_
          refine lv_land hx hb dL_law_108 ?_
          refine lv_lor hx hb dL_law_109 ?_
          have hxo : ∃ e, w' x = some (1, .inr (0, e)) := by obtain ⟨tl, rl, pa, ya, h1, -⟩ := hD; exact ⟨_, h1⟩
          obtain ⟨ex, hxo⟩ := hxo
          refine c_i (r_runV 2 M (m_dcollect E hD hn hlen s1 (s2.toInt64 <<< ((32 : Int32).toInt64 &&& 63) ||| (s3.toInt64 &&& 4294967295))) hP (Rc.of cdX0 hxo) (lw_V q185 q186 q187 q12 q188) (by decide +kernel) rfl ⟨Nat.le_of_ble_eq_true rfl, Nat.le_of_ble_eq_true rfl⟩ hl.1 rfl (Nat.le_of_ble_eq_true rfl) dL_law_110 ⟨by show 52 + 8 * j + 2 ≤ 600384; omega, by show 2011 + 310 * j + 301 ≤ 7288298; omega⟩) hP (fun r1 w1 H locs hq hP => ?_)
          obtain ⟨er1, hD1, hk1⟩ := hq
          have hM1 := hM.kp hk1
          refine lv_aload_n hx hb dL_law_113 rfl (lv_at hl 3 rfl) ?_
          refine lv_aload_n hx hb dL_law_114 rfl (lv_at hl 1 rfl) ?_
          refine lv_iload_n hx hb dL_law_115 rfl (lv_at hl 0 rfl) ?_
          refine lv_iconst (v := 1) hx hb dL_law_116 (by decide) ?_
          refine lv_iadd hx hb dL_law_117 ?_
          rw [show nI (5 * j) + 1 = nI (5 * j + 1) from nI_add (5 * j) 1]
          refine r_sld M hP hX hL31 (by omega) dL_law_118 ?_
          rw [e1]
          refine lv_aload_n hx hb dL_law_119 rfl (lv_at hl 1 rfl) ?_
          refine lv_iload_n hx hb dL_law_120 rfl (lv_at hl 0 rfl) ?_
          refine lv_iconst (v := 2) hx hb dL_law_121 (by decide) ?_
          refine lv_iadd hx hb dL_law_122 ?_
          rw [show nI (5 * j) + 2 = nI (5 * j + 2) from nI_add (5 * j) 2]
          refine r_sld M hP hX hL31 (by omega) dL_law_123 ?_
          rw [e2]
          refine lv_i2l hx hb dL_law_124 rfl ?_
          refine lv_bipush (v := 32) hx hb dL_law_125 (by decide) ?_
          refine lv_lshl hx hb dL_law_127 rfl ?_
          refine lv_aload_n hx hb dL_law_128 rfl (lv_at hl 1 rfl) ?_
          refine lv_iload_n hx hb dL_law_129 rfl (lv_at hl 0 rfl) ?_
          refine lv_iconst (v := 3) hx hb dL_law_130 (by decide) ?_
          refine lv_iadd hx hb dL_law_131 ?_
          rw [show nI (5 * j) + 3 = nI (5 * j + 3) from nI_add (5 * j) 3]
          refine r_sld M hP hX hL31 (by omega) dL_law_132 ?_
          rw [e3]
          refine lv_i2l hx hb dL_law_133 rfl ?_
          refine lv_ldc2 hx hb M.1.2.2.2.1 (M.1.2.2.2.2 _ q657) dL_law_134 ?_
          refine lv_land hx hb dL_law_137 ?_
          refine lv_lor hx hb dL_law_138 ?_
          have hyo : ∃ e, w1 y = some (50, .inr (2, e)) := by obtain ⟨wy, a0, a1, a2, a3, a4, a5, a6, z, f0, f1, f2, f3, f4, f5, f6, h1, -⟩ := hM1; exact ⟨_, h1⟩
          obtain ⟨ey, hyo⟩ := hyo
          refine c_i (r_runV 2 M (m_mcollect E hM1 hn hlen s1 (s2.toInt64 <<< ((32 : Int32).toInt64 &&& 63) ||| (s3.toInt64 &&& 4294967295))) hP (Rc.of cdX2 hyo) (lw_V q606 q607 q608 q21 q609) (by decide +kernel) rfl ⟨Nat.le_of_ble_eq_true rfl, Nat.le_of_ble_eq_true rfl⟩ hl.1 rfl (Nat.le_of_ble_eq_true rfl) dL_law_139 ⟨by show 52 + 8 * j + 2 + 0 ≤ 600384; omega, by show 2011 + 310 * j + 301 + 0 ≤ 7288298; omega⟩) hP (fun r2 w2 H locs hq hP => ?_)
          obtain ⟨er2, hM2, hk2⟩ := hq
          have hD2 := hD1.kp hk2
          refine lv_icmp_eq (tgt := 483) hx hb dL_law_142 (by decide) (fun _ => ?_) (fun c9 => absurd (er1.trans er2.symm) c9)
          exact t483 _ w2 H locs _ _ (by show 52 + 8 * j + 2 + 0 ≤ 52 + 8 * (j + 1); omega) (by show 2011 + 310 * j + 301 + 0 ≤ 2011 + 310 * (j + 1); omega) (wf_collect hW0 hN _ _) hD2 hM2 hP
        · refine lv_tableIn (tgt := 147) hx hb dL_law_32 (by decide +kernel) (by decide +kernel) rfl (by decide) ?_
          refine lv_aload_n hx hb dL_law_147 rfl (lv_at hl 2 rfl) ?_
          refine lv_aload_n hx hb dL_law_148 rfl (lv_at hl 1 rfl) ?_
          refine lv_iload_n hx hb dL_law_149 rfl (lv_at hl 0 rfl) ?_
          refine lv_iconst (v := 1) hx hb dL_law_150 (by decide) ?_
          refine lv_iadd hx hb dL_law_151 ?_
          rw [show nI (5 * j) + 1 = nI (5 * j + 1) from nI_add (5 * j) 1]
          refine r_sld M hP hX hL31 (by omega) dL_law_152 ?_
          rw [e1]
          refine lv_aload_n hx hb dL_law_153 rfl (lv_at hl 1 rfl) ?_
          refine lv_iload_n hx hb dL_law_154 rfl (lv_at hl 0 rfl) ?_
          refine lv_iconst (v := 2) hx hb dL_law_155 (by decide) ?_
          refine lv_iadd hx hb dL_law_156 ?_
          rw [show nI (5 * j) + 2 = nI (5 * j + 2) from nI_add (5 * j) 2]
          refine r_sld M hP hX hL31 (by omega) dL_law_157 ?_
          rw [e2]
          refine lv_i2l hx hb dL_law_158 rfl ?_
          refine lv_bipush (v := 32) hx hb dL_law_159 (by decide) ?_
          refine lv_lshl hx hb dL_law_161 rfl ?_
          refine lv_aload_n hx hb dL_law_162 rfl (lv_at hl 1 rfl) ?_
          refine lv_iload_n hx hb dL_law_163 rfl (lv_at hl 0 rfl) ?_
          refine lv_iconst (v := 3) hx hb dL_law_164 (by decide) ?_
          refine lv_iadd hx hb dL_law_165 ?_
          rw [show nI (5 * j) + 3 = nI (5 * j + 3) from nI_add (5 * j) 3]
          refine r_sld M hP hX hL31 (by omega) dL_law_166 ?_
          rw [e3]
          refine lv_i2l hx hb dL_law_167 rfl ?_
          refine lv_ldc2 hx hb M.1.2.2.2.1 (M.1.2.2.2.2 _ q657) dL_law_168 ?_
          refine lv_land hx hb dL_law_171 ?_
          refine lv_lor hx hb dL_law_172 ?_
          have hxo : ∃ e, w' x = some (1, .inr (0, e)) := by obtain ⟨tl, rl, pa, ya, h1, -⟩ := hD; exact ⟨_, h1⟩
          obtain ⟨ex, hxo⟩ := hxo
          refine c_i (r_runV 2 M (m_danswer E hD hn s1 (s2.toInt64 <<< ((32 : Int32).toInt64 &&& 63) ||| (s3.toInt64 &&& 4294967295))) hP (Rc.of cdX0 hxo) (lw_V q227 q228 q229 q12 q230) (by decide +kernel) rfl ⟨Nat.le_of_ble_eq_true rfl, Nat.le_of_ble_eq_true rfl⟩ hl.1 rfl (Nat.le_of_ble_eq_true rfl) dL_law_173 ⟨by show 52 + 8 * j + 0 ≤ 600384; omega, by show 2011 + 310 * j + 0 ≤ 7288298; omega⟩) hP (fun r1 w1 H locs hq hP => ?_)
          obtain ⟨er1, hD1, hk1⟩ := hq
          have hM1 := hM.kp hk1
          refine lv_aload_n hx hb dL_law_176 rfl (lv_at hl 3 rfl) ?_
          refine lv_aload_n hx hb dL_law_177 rfl (lv_at hl 1 rfl) ?_
          refine lv_iload_n hx hb dL_law_178 rfl (lv_at hl 0 rfl) ?_
          refine lv_iconst (v := 1) hx hb dL_law_179 (by decide) ?_
          refine lv_iadd hx hb dL_law_180 ?_
          rw [show nI (5 * j) + 1 = nI (5 * j + 1) from nI_add (5 * j) 1]
          refine r_sld M hP hX hL31 (by omega) dL_law_181 ?_
          rw [e1]
          refine lv_aload_n hx hb dL_law_182 rfl (lv_at hl 1 rfl) ?_
          refine lv_iload_n hx hb dL_law_183 rfl (lv_at hl 0 rfl) ?_
          refine lv_iconst (v := 2) hx hb dL_law_184 (by decide) ?_
          refine lv_iadd hx hb dL_law_185 ?_
          rw [show nI (5 * j) + 2 = nI (5 * j + 2) from nI_add (5 * j) 2]
          refine r_sld M hP hX hL31 (by omega) dL_law_186 ?_
          rw [e2]
          refine lv_i2l hx hb dL_law_187 rfl ?_
          refine lv_bipush (v := 32) hx hb dL_law_188 (by decide) ?_
          refine lv_lshl hx hb dL_law_190 rfl ?_
          refine lv_aload_n hx hb dL_law_191 rfl (lv_at hl 1 rfl) ?_
          refine lv_iload_n hx hb dL_law_192 rfl (lv_at hl 0 rfl) ?_
          refine lv_iconst (v := 3) hx hb dL_law_193 (by decide) ?_
          refine lv_iadd hx hb dL_law_194 ?_
          rw [show nI (5 * j) + 3 = nI (5 * j + 3) from nI_add (5 * j) 3]
          refine r_sld M hP hX hL31 (by omega) dL_law_195 ?_
          rw [e3]
          refine lv_i2l hx hb dL_law_196 rfl ?_
          refine lv_ldc2 hx hb M.1.2.2.2.1 (M.1.2.2.2.2 _ q657) dL_law_197 ?_
          refine lv_land hx hb dL_law_200 ?_
          refine lv_lor hx hb dL_law_201 ?_
          have hyo : ∃ e, w1 y = some (50, .inr (2, e)) := by obtain ⟨wy, a0, a1, a2, a3, a4, a5, a6, z, f0, f1, f2, f3, f4, f5, f6, h1, -⟩ := hM1; exact ⟨_, h1⟩
          obtain ⟨ey, hyo⟩ := hyo
          refine c_i (r_runV 2 M (m_manswer E hM1 hn s1 (s2.toInt64 <<< ((32 : Int32).toInt64 &&& 63) ||| (s3.toInt64 &&& 4294967295))) hP (Rc.of cdX2 hyo) (lw_V q613 q614 q615 q21 q616) (by decide +kernel) rfl ⟨Nat.le_of_ble_eq_true rfl, Nat.le_of_ble_eq_true rfl⟩ hl.1 rfl (Nat.le_of_ble_eq_true rfl) dL_law_202 ⟨by show 52 + 8 * j + 0 + 0 ≤ 600384; omega, by show 2011 + 310 * j + 0 + 0 ≤ 7288298; omega⟩) hP (fun r2 w2 H locs hq hP => ?_)
          obtain ⟨er2, hM2, hk2⟩ := hq
          have hD2 := hD1.kp hk2
          refine lv_icmp_eq (tgt := 483) hx hb dL_law_205 (by decide) (fun _ => ?_) (fun c9 => absurd (er1.trans er2.symm) c9)
          exact t483 _ w2 H locs _ _ (by show 52 + 8 * j + 0 + 0 ≤ 52 + 8 * (j + 1); omega) (by show 2011 + 310 * j + 0 + 0 ≤ 2011 + 310 * (j + 1); omega) (wf_answer hW0 hN _ _) hD2 hM2 hP
        · refine lv_tableIn (tgt := 210) hx hb dL_law_32 (by decide +kernel) (by decide +kernel) rfl (by decide) ?_
          refine lv_aload_n hx hb dL_law_210 rfl (lv_at hl 2 rfl) ?_
          refine lv_aload_n hx hb dL_law_211 rfl (lv_at hl 1 rfl) ?_
          refine lv_iload_n hx hb dL_law_212 rfl (lv_at hl 0 rfl) ?_
          refine lv_iconst (v := 1) hx hb dL_law_213 (by decide) ?_
          refine lv_iadd hx hb dL_law_214 ?_
          rw [show nI (5 * j) + 1 = nI (5 * j + 1) from nI_add (5 * j) 1]
          refine r_sld M hP hX hL31 (by omega) dL_law_215 ?_
          rw [e1]
          refine lv_aload_n hx hb dL_law_216 rfl (lv_at hl 1 rfl) ?_
          refine lv_iload_n hx hb dL_law_217 rfl (lv_at hl 0 rfl) ?_
          refine lv_iconst (v := 2) hx hb dL_law_218 (by decide) ?_
          refine lv_iadd hx hb dL_law_219 ?_
          rw [show nI (5 * j) + 2 = nI (5 * j + 2) from nI_add (5 * j) 2]
          refine r_sld M hP hX hL31 (by omega) dL_law_220 ?_
          rw [e2]
          have hxo : ∃ e, w' x = some (1, .inr (0, e)) := by obtain ⟨tl, rl, pa, ya, h1, -⟩ := hD; exact ⟨_, h1⟩
          obtain ⟨ex, hxo⟩ := hxo
          refine c_i (r_runV 2 M (m_dfails E hD hn s1 s2) hP (Rc.of cdX0 hxo) (lw_V q234 q235 q236 q12 q237) (by decide +kernel) rfl ⟨Nat.le_of_ble_eq_true rfl, Nat.le_of_ble_eq_true rfl⟩ hl.1 rfl (Nat.le_of_ble_eq_true rfl) dL_law_221 ⟨by show 52 + 8 * j + 0 ≤ 600384; omega, by show 2011 + 310 * j + 0 ≤ 7288298; omega⟩) hP (fun r1 w1 H locs hq hP => ?_)
          obtain ⟨er1, hD1, hk1⟩ := hq
          have hM1 := hM.kp hk1
          refine lv_aload_n hx hb dL_law_224 rfl (lv_at hl 3 rfl) ?_
          refine lv_aload_n hx hb dL_law_225 rfl (lv_at hl 1 rfl) ?_
          refine lv_iload_n hx hb dL_law_226 rfl (lv_at hl 0 rfl) ?_
          refine lv_iconst (v := 1) hx hb dL_law_227 (by decide) ?_
          refine lv_iadd hx hb dL_law_228 ?_
          rw [show nI (5 * j) + 1 = nI (5 * j + 1) from nI_add (5 * j) 1]
          refine r_sld M hP hX hL31 (by omega) dL_law_229 ?_
          rw [e1]
          refine lv_aload_n hx hb dL_law_230 rfl (lv_at hl 1 rfl) ?_
          refine lv_iload_n hx hb dL_law_231 rfl (lv_at hl 0 rfl) ?_
          refine lv_iconst (v := 2) hx hb dL_law_232 (by decide) ?_
          refine lv_iadd hx hb dL_law_233 ?_
          rw [show nI (5 * j) + 2 = nI (5 * j + 2) from nI_add (5 * j) 2]
          refine r_sld M hP hX hL31 (by omega) dL_law_234 ?_
          rw [e2]
          have hyo : ∃ e, w1 y = some (50, .inr (2, e)) := by obtain ⟨wy, a0, a1, a2, a3, a4, a5, a6, z, f0, f1, f2, f3, f4, f5, f6, h1, -⟩ := hM1; exact ⟨_, h1⟩
          obtain ⟨ey, hyo⟩ := hyo
          refine c_i (r_runV 2 M (m_mfails E hM1 hn s1 s2) hP (Rc.of cdX2 hyo) (lw_V q617 q618 q619 q21 q620) (by decide +kernel) rfl ⟨Nat.le_of_ble_eq_true rfl, Nat.le_of_ble_eq_true rfl⟩ hl.1 rfl (Nat.le_of_ble_eq_true rfl) dL_law_235 ⟨by show 52 + 8 * j + 0 + 0 ≤ 600384; omega, by show 2011 + 310 * j + 0 + 0 ≤ 7288298; omega⟩) hP (fun r2 w2 H locs hq hP => ?_)
          obtain ⟨er2, hM2, hk2⟩ := hq
          have hD2 := hD1.kp hk2
          refine lv_icmp_eq (tgt := 483) hx hb dL_law_238 (by decide) (fun _ => ?_) (fun c9 => absurd (er1.trans er2.symm) c9)
          exact t483 _ w2 H locs _ _ (by show 52 + 8 * j + 0 + 0 ≤ 52 + 8 * (j + 1); omega) (by show 2011 + 310 * j + 0 + 0 ≤ 2011 + 310 * (j + 1); omega) (wf_fails hW0 hN _ _) hD2 hM2 hP
        · refine lv_tableIn (tgt := 243) hx hb dL_law_32 (by decide +kernel) (by decide +kernel) rfl (by decide) ?_
          refine lv_aload_n hx hb dL_law_243 rfl (lv_at hl 2 rfl) ?_
          refine lv_aload_n hx hb dL_law_244 rfl (lv_at hl 1 rfl) ?_
          refine lv_iload_n hx hb dL_law_245 rfl (lv_at hl 0 rfl) ?_
          refine lv_iconst (v := 1) hx hb dL_law_246 (by decide) ?_
          refine lv_iadd hx hb dL_law_247 ?_
          rw [show nI (5 * j) + 1 = nI (5 * j + 1) from nI_add (5 * j) 1]
          refine r_sld M hP hX hL31 (by omega) dL_law_248 ?_
          rw [e1]
          have hxo : ∃ e, w' x = some (1, .inr (0, e)) := by obtain ⟨tl, rl, pa, ya, h1, -⟩ := hD; exact ⟨_, h1⟩
          obtain ⟨ex, hxo⟩ := hxo
          refine c_i (r_runV 1 M (m_dmake E hD hn s1) hP (Rc.of cdX0 hxo) (lw_V q238 q239 q240 q12 q241) (by decide +kernel) rfl ⟨Nat.le_of_ble_eq_true rfl, Nat.le_of_ble_eq_true rfl⟩ hl.1 rfl (Nat.le_of_ble_eq_true rfl) dL_law_249 ⟨by show 52 + 8 * j + 2 ≤ 600384; omega, by show 2011 + 310 * j + 303 ≤ 7288298; omega⟩) hP (fun r1 w1 H locs hq hP => ?_)
          obtain ⟨er1, hD1, hk1⟩ := hq
          have hM1 := hM.kp hk1
          refine lv_aload_n hx hb dL_law_252 rfl (lv_at hl 3 rfl) ?_
          refine lv_aload_n hx hb dL_law_253 rfl (lv_at hl 1 rfl) ?_
          refine lv_iload_n hx hb dL_law_254 rfl (lv_at hl 0 rfl) ?_
          refine lv_iconst (v := 1) hx hb dL_law_255 (by decide) ?_
          refine lv_iadd hx hb dL_law_256 ?_
          rw [show nI (5 * j) + 1 = nI (5 * j + 1) from nI_add (5 * j) 1]
          refine r_sld M hP hX hL31 (by omega) dL_law_257 ?_
          rw [e1]
          have hyo : ∃ e, w1 y = some (50, .inr (2, e)) := by obtain ⟨wy, a0, a1, a2, a3, a4, a5, a6, z, f0, f1, f2, f3, f4, f5, f6, h1, -⟩ := hM1; exact ⟨_, h1⟩
          obtain ⟨ey, hyo⟩ := hyo
          refine c_i (r_runV 1 M (m_mmake E hM1 hn s1) hP (Rc.of cdX2 hyo) (lw_V q621 q622 q623 q21 q624) (by decide +kernel) rfl ⟨Nat.le_of_ble_eq_true rfl, Nat.le_of_ble_eq_true rfl⟩ hl.1 rfl (Nat.le_of_ble_eq_true rfl) dL_law_258 ⟨by show 52 + 8 * j + 2 + 0 ≤ 600384; omega, by show 2011 + 310 * j + 303 + 0 ≤ 7288298; omega⟩) hP (fun r2 w2 H locs hq hP => ?_)
          obtain ⟨er2, hM2, hk2⟩ := hq
          have hD2 := hD1.kp hk2
          refine lv_icmp_eq (tgt := 483) hx hb dL_law_261 (by decide) (fun _ => ?_) (fun c9 => absurd (er1.trans er2.symm) c9)
          exact t483 _ w2 H locs _ _ (by show 52 + 8 * j + 2 + 0 ≤ 52 + 8 * (j + 1); omega) (by show 2011 + 310 * j + 303 + 0 ≤ 2011 + 310 * (j + 1); omega) (wf_make hW0 hN _) hD2 hM2 hP
        · refine lv_tableIn (tgt := 266) hx hb dL_law_32 (by decide +kernel) (by decide +kernel) rfl (by decide) ?_
          refine lv_aload_n hx hb dL_law_266 rfl (lv_at hl 2 rfl) ?_
          refine lv_aload_n hx hb dL_law_267 rfl (lv_at hl 1 rfl) ?_
          refine lv_iload_n hx hb dL_law_268 rfl (lv_at hl 0 rfl) ?_
          refine lv_iconst (v := 1) hx hb dL_law_269 (by decide) ?_
          refine lv_iadd hx hb dL_law_270 ?_
          rw [show nI (5 * j) + 1 = nI (5 * j + 1) from nI_add (5 * j) 1]
          refine r_sld M hP hX hL31 (by omega) dL_law_271 ?_
          rw [e1]
          refine lv_aload_n hx hb dL_law_272 rfl (lv_at hl 1 rfl) ?_
          refine lv_iload_n hx hb dL_law_273 rfl (lv_at hl 0 rfl) ?_
          refine lv_iconst (v := 2) hx hb dL_law_274 (by decide) ?_
          refine lv_iadd hx hb dL_law_275 ?_
          rw [show nI (5 * j) + 2 = nI (5 * j + 2) from nI_add (5 * j) 2]
          refine r_sld M hP hX hL31 (by omega) dL_law_276 ?_
          rw [e2]
          refine lv_aload_n hx hb dL_law_277 rfl (lv_at hl 1 rfl) ?_
          refine lv_iload_n hx hb dL_law_278 rfl (lv_at hl 0 rfl) ?_
          refine lv_iconst (v := 3) hx hb dL_law_279 (by decide) ?_
          refine lv_iadd hx hb dL_law_280 ?_
          rw [show nI (5 * j) + 3 = nI (5 * j + 3) from nI_add (5 * j) 3]
          refine r_sld M hP hX hL31 (by omega) dL_law_281 ?_
          rw [e3]
          refine lv_i2l hx hb dL_law_282 rfl ?_
          refine lv_bipush (v := 32) hx hb dL_law_283 (by decide) ?_
          refine lv_lshl hx hb dL_law_285 rfl ?_
          refine lv_aload_n hx hb dL_law_286 rfl (lv_at hl 1 rfl) ?_
          refine lv_iload_n hx hb dL_law_287 rfl (lv_at hl 0 rfl) ?_
          refine lv_iconst (v := 4) hx hb dL_law_288 (by decide) ?_
          refine lv_iadd hx hb dL_law_289 ?_
          rw [show nI (5 * j) + 4 = nI (5 * j + 4) from nI_add (5 * j) 4]
          refine r_sld M hP hX hL31 (by omega) dL_law_290 ?_
          rw [e4]
          refine lv_i2l hx hb dL_law_291 rfl ?_
          refine lv_ldc2 hx hb M.1.2.2.2.1 (M.1.2.2.2.2 _ q657) dL_law_292 ?_
          refine lv_land hx hb dL_law_295 ?_
          refine lv_lor hx hb dL_law_296 ?_
          have hxo : ∃ e, w' x = some (1, .inr (0, e)) := by obtain ⟨tl, rl, pa, ya, h1, -⟩ := hD; exact ⟨_, h1⟩
          obtain ⟨ex, hxo⟩ := hxo
          refine c_l (r_runV 3 M (m_dcall E hD hn hlen hfl s1 s2 (s3.toInt64 <<< ((32 : Int32).toInt64 &&& 63) ||| (s4.toInt64 &&& 4294967295))) hP (Rc.of cdX0 hxo) (lw_V q278 q279 q280 q12 q281) (by decide +kernel) rfl ⟨Nat.le_of_ble_eq_true rfl, Nat.le_of_ble_eq_true rfl⟩ hl.1 rfl (Nat.le_of_ble_eq_true rfl) dL_law_297 ⟨by show 52 + 8 * j + 5 ≤ 600384; omega, by show 2011 + 310 * j + 233 ≤ 7288298; omega⟩) hP (fun r1 w1 H locs hq hP => ?_)
          obtain ⟨er1, hD1, hk1⟩ := hq
          have hM1 := hM.kp hk1
          refine lv_aload_n hx hb dL_law_300 rfl (lv_at hl 3 rfl) ?_
          refine lv_aload_n hx hb dL_law_301 rfl (lv_at hl 1 rfl) ?_
          refine lv_iload_n hx hb dL_law_302 rfl (lv_at hl 0 rfl) ?_
          refine lv_iconst (v := 1) hx hb dL_law_303 (by decide) ?_
          refine lv_iadd hx hb dL_law_304 ?_
          rw [show nI (5 * j) + 1 = nI (5 * j + 1) from nI_add (5 * j) 1]
          refine r_sld M hP hX hL31 (by omega) dL_law_305 ?_
          rw [e1]
          refine lv_aload_n hx hb dL_law_306 rfl (lv_at hl 1 rfl) ?_
          refine lv_iload_n hx hb dL_law_307 rfl (lv_at hl 0 rfl) ?_
          refine lv_iconst (v := 2) hx hb dL_law_308 (by decide) ?_
          refine lv_iadd hx hb dL_law_309 ?_
          rw [show nI (5 * j) + 2 = nI (5 * j + 2) from nI_add (5 * j) 2]
          refine r_sld M hP hX hL31 (by omega) dL_law_310 ?_
          rw [e2]
          refine lv_aload_n hx hb dL_law_311 rfl (lv_at hl 1 rfl) ?_
          refine lv_iload_n hx hb dL_law_312 rfl (lv_at hl 0 rfl) ?_
          refine lv_iconst (v := 3) hx hb dL_law_313 (by decide) ?_
          refine lv_iadd hx hb dL_law_314 ?_
          rw [show nI (5 * j) + 3 = nI (5 * j + 3) from nI_add (5 * j) 3]
          refine r_sld M hP hX hL31 (by omega) dL_law_315 ?_
          rw [e3]
          refine lv_i2l hx hb dL_law_316 rfl ?_
          refine lv_bipush (v := 32) hx hb dL_law_317 (by decide) ?_
          refine lv_lshl hx hb dL_law_319 rfl ?_
          refine lv_aload_n hx hb dL_law_320 rfl (lv_at hl 1 rfl) ?_
          refine lv_iload_n hx hb dL_law_321 rfl (lv_at hl 0 rfl) ?_
          refine lv_iconst (v := 4) hx hb dL_law_322 (by decide) ?_
          refine lv_iadd hx hb dL_law_323 ?_
          rw [show nI (5 * j) + 4 = nI (5 * j + 4) from nI_add (5 * j) 4]
          refine r_sld M hP hX hL31 (by omega) dL_law_324 ?_
          rw [e4]
          refine lv_i2l hx hb dL_law_325 rfl ?_
          refine lv_ldc2 hx hb M.1.2.2.2.1 (M.1.2.2.2.2 _ q657) dL_law_326 ?_
          refine lv_land hx hb dL_law_329 ?_
          refine lv_lor hx hb dL_law_330 ?_
          have hyo : ∃ e, w1 y = some (50, .inr (2, e)) := by obtain ⟨wy, a0, a1, a2, a3, a4, a5, a6, z, f0, f1, f2, f3, f4, f5, f6, h1, -⟩ := hM1; exact ⟨_, h1⟩
          obtain ⟨ey, hyo⟩ := hyo
          refine c_l (r_runV 3 M (m_mcall E hM1 hn hlen hfl hca2 s1 s2 (s3.toInt64 <<< ((32 : Int32).toInt64 &&& 63) ||| (s4.toInt64 &&& 4294967295))) hP (Rc.of cdX2 hyo) (lw_V q641 q642 q643 q21 q644) (by decide +kernel) rfl ⟨Nat.le_of_ble_eq_true rfl, Nat.le_of_ble_eq_true rfl⟩ hl.1 rfl (Nat.le_of_ble_eq_true rfl) dL_law_331 ⟨by show 52 + 8 * j + 5 + 0 ≤ 600384; omega, by show 2011 + 310 * j + 233 + 0 ≤ 7288298; omega⟩) hP (fun r2 w2 H locs hq hP => ?_)
          obtain ⟨er2, hM2, hk2⟩ := hq
          have hD2 := hD1.kp hk2
          refine W.lcmp hx hb dL_law_334 ?_
          refine lv_if_eq (tgt := 483) hx hb dL_law_335 (by decide) (fun _ => ?_) (fun c9 => absurd ((lg_cmp_eq r1 r2).mpr (er1.trans er2.symm)) c9)
          exact t483 _ w2 H locs _ _ (by show 52 + 8 * j + 5 + 0 ≤ 52 + 8 * (j + 1); omega) (by show 2011 + 310 * j + 233 + 0 ≤ 2011 + 310 * (j + 1); omega) (wf_call hW0 hN _ _ _) hD2 hM2 hP
        · refine lv_tableIn (tgt := 340) hx hb dL_law_32 (by decide +kernel) (by decide +kernel) rfl (by decide) ?_
          refine lv_aload_n hx hb dL_law_340 rfl (lv_at hl 2 rfl) ?_
          refine lv_aload_n hx hb dL_law_341 rfl (lv_at hl 1 rfl) ?_
          refine lv_iload_n hx hb dL_law_342 rfl (lv_at hl 0 rfl) ?_
          refine lv_iconst (v := 1) hx hb dL_law_343 (by decide) ?_
          refine lv_iadd hx hb dL_law_344 ?_
          rw [show nI (5 * j) + 1 = nI (5 * j + 1) from nI_add (5 * j) 1]
          refine r_sld M hP hX hL31 (by omega) dL_law_345 ?_
          rw [e1]
          have hxo : ∃ e, w' x = some (1, .inr (0, e)) := by obtain ⟨tl, rl, pa, ya, h1, -⟩ := hD; exact ⟨_, h1⟩
          obtain ⟨ex, hxo⟩ := hxo
          refine c_i (r_runV 1 M (m_told E hD hn s1) hP (Rc.of cdX0 hxo) (lw_V q536 q537 q538 q12 q539) (by decide +kernel) rfl ⟨Nat.le_of_ble_eq_true rfl, Nat.le_of_ble_eq_true rfl⟩ hl.1 rfl (Nat.le_of_ble_eq_true rfl) dL_law_346 ⟨by show 52 + 8 * j + 0 ≤ 600384; omega, by show 2011 + 310 * j + 0 ≤ 7288298; omega⟩) hP (fun r1 w1 H locs hq hP => ?_)
          obtain ⟨er1, hD1, hk1⟩ := hq
          have hM1 := hM.kp hk1
          refine lv_aload_n hx hb dL_law_349 rfl (lv_at hl 3 rfl) ?_
          refine lv_aload_n hx hb dL_law_350 rfl (lv_at hl 1 rfl) ?_
          refine lv_iload_n hx hb dL_law_351 rfl (lv_at hl 0 rfl) ?_
          refine lv_iconst (v := 1) hx hb dL_law_352 (by decide) ?_
          refine lv_iadd hx hb dL_law_353 ?_
          rw [show nI (5 * j) + 1 = nI (5 * j + 1) from nI_add (5 * j) 1]
          refine r_sld M hP hX hL31 (by omega) dL_law_354 ?_
          rw [e1]
          have hyo : ∃ e, w1 y = some (50, .inr (2, e)) := by obtain ⟨wy, a0, a1, a2, a3, a4, a5, a6, z, f0, f1, f2, f3, f4, f5, f6, h1, -⟩ := hM1; exact ⟨_, h1⟩
          obtain ⟨ey, hyo⟩ := hyo
          refine c_i (r_runV 1 M (m_mtold E hM1 hn s1) hP (Rc.of cdX2 hyo) (lw_V q645 q646 q647 q21 q648) (by decide +kernel) rfl ⟨Nat.le_of_ble_eq_true rfl, Nat.le_of_ble_eq_true rfl⟩ hl.1 rfl (Nat.le_of_ble_eq_true rfl) dL_law_355 ⟨by show 52 + 8 * j + 0 + 0 ≤ 600384; omega, by show 2011 + 310 * j + 0 + 0 ≤ 7288298; omega⟩) hP (fun r2 w2 H locs hq hP => ?_)
          obtain ⟨er2, hM2, hk2⟩ := hq
          have hD2 := hD1.kp hk2
          refine lv_icmp_eq (tgt := 483) hx hb dL_law_358 (by decide) (fun _ => ?_) (fun c9 => absurd (er1.trans er2.symm) c9)
          exact t483 _ w2 H locs _ _ (by show 52 + 8 * j + 0 + 0 ≤ 52 + 8 * (j + 1); omega) (by show 2011 + 310 * j + 0 + 0 ≤ 2011 + 310 * (j + 1); omega) (hW0.up hN) hD2 hM2 hP
        · refine lv_tableIn (tgt := 363) hx hb dL_law_32 (by decide +kernel) (by decide +kernel) rfl (by decide) ?_
          refine lv_aload_n hx hb dL_law_363 rfl (lv_at hl 2 rfl) ?_
          refine lv_aload_n hx hb dL_law_364 rfl (lv_at hl 1 rfl) ?_
          refine lv_iload_n hx hb dL_law_365 rfl (lv_at hl 0 rfl) ?_
          refine lv_iconst (v := 1) hx hb dL_law_366 (by decide) ?_
          refine lv_iadd hx hb dL_law_367 ?_
          rw [show nI (5 * j) + 1 = nI (5 * j + 1) from nI_add (5 * j) 1]
          refine r_sld M hP hX hL31 (by omega) dL_law_368 ?_
          rw [e1]
          have hxo : ∃ e, w' x = some (1, .inr (0, e)) := by obtain ⟨tl, rl, pa, ya, h1, -⟩ := hD; exact ⟨_, h1⟩
          obtain ⟨ex, hxo⟩ := hxo
          refine c_i (r_runV 1 M (m_ddrop E hD hn s1) hP (Rc.of cdX0 hxo) (lw_V q264 q265 q266 q12 q267) (by decide +kernel) rfl ⟨Nat.le_of_ble_eq_true rfl, Nat.le_of_ble_eq_true rfl⟩ hl.1 rfl (Nat.le_of_ble_eq_true rfl) dL_law_369 ⟨by show 52 + 8 * j + 0 ≤ 600384; omega, by show 2011 + 310 * j + 0 ≤ 7288298; omega⟩) hP (fun r1 w1 H locs hq hP => ?_)
          obtain ⟨er1, hD1, hk1⟩ := hq
          have hM1 := hM.kp hk1
          refine lv_aload_n hx hb dL_law_372 rfl (lv_at hl 3 rfl) ?_
          refine lv_aload_n hx hb dL_law_373 rfl (lv_at hl 1 rfl) ?_
          refine lv_iload_n hx hb dL_law_374 rfl (lv_at hl 0 rfl) ?_
          refine lv_iconst (v := 1) hx hb dL_law_375 (by decide) ?_
          refine lv_iadd hx hb dL_law_376 ?_
          rw [show nI (5 * j) + 1 = nI (5 * j + 1) from nI_add (5 * j) 1]
          refine r_sld M hP hX hL31 (by omega) dL_law_377 ?_
          rw [e1]
          have hyo : ∃ e, w1 y = some (50, .inr (2, e)) := by obtain ⟨wy, a0, a1, a2, a3, a4, a5, a6, z, f0, f1, f2, f3, f4, f5, f6, h1, -⟩ := hM1; exact ⟨_, h1⟩
          obtain ⟨ey, hyo⟩ := hyo
          refine c_i (r_runV 1 M (m_mdrop E hM1 hn s1) hP (Rc.of cdX2 hyo) (lw_V q649 q650 q651 q21 q652) (by decide +kernel) rfl ⟨Nat.le_of_ble_eq_true rfl, Nat.le_of_ble_eq_true rfl⟩ hl.1 rfl (Nat.le_of_ble_eq_true rfl) dL_law_378 ⟨by show 52 + 8 * j + 0 + 0 ≤ 600384; omega, by show 2011 + 310 * j + 0 + 0 ≤ 7288298; omega⟩) hP (fun r2 w2 H locs hq hP => ?_)
          obtain ⟨er2, hM2, hk2⟩ := hq
          have hD2 := hD1.kp hk2
          refine lv_icmp_eq (tgt := 483) hx hb dL_law_381 (by decide) (fun _ => ?_) (fun c9 => absurd (er1.trans er2.symm) c9)
          exact t483 _ w2 H locs _ _ (by show 52 + 8 * j + 0 + 0 ≤ 52 + 8 * (j + 1); omega) (by show 2011 + 310 * j + 0 + 0 ≤ 2011 + 310 * (j + 1); omega) (wf_drop hW0 hN _) hD2 hM2 hP
        · refine lv_tableIn (tgt := 386) hx hb dL_law_32 (by decide +kernel) (by decide +kernel) rfl (by decide) ?_
          refine lv_aload_n hx hb dL_law_386 rfl (lv_at hl 2 rfl) ?_
          refine lv_aload_n hx hb dL_law_387 rfl (lv_at hl 1 rfl) ?_
          refine lv_iload_n hx hb dL_law_388 rfl (lv_at hl 0 rfl) ?_
          refine lv_iconst (v := 1) hx hb dL_law_389 (by decide) ?_
          refine lv_iadd hx hb dL_law_390 ?_
          rw [show nI (5 * j) + 1 = nI (5 * j + 1) from nI_add (5 * j) 1]
          refine r_sld M hP hX hL31 (by omega) dL_law_391 ?_
          rw [e1]
          have hxo : ∃ e, w' x = some (1, .inr (0, e)) := by obtain ⟨tl, rl, pa, ya, h1, -⟩ := hD; exact ⟨_, h1⟩
          obtain ⟨ex, hxo⟩ := hxo
          refine c_i (r_runV 1 M (m_dnumbers E hD hn s1) hP (Rc.of cdX0 hxo) (lw_V q540 q541 q542 q12 q543) (by decide +kernel) rfl ⟨Nat.le_of_ble_eq_true rfl, Nat.le_of_ble_eq_true rfl⟩ hl.1 rfl (Nat.le_of_ble_eq_true rfl) dL_law_392 ⟨by show 52 + 8 * j + 1 ≤ 600384; omega, by show 2011 + 310 * j + 4 ≤ 7288298; omega⟩) hP (fun r1 w1 H locs hq hP => ?_)
          obtain ⟨er1, hD1, hk1⟩ := hq
          have hM1 := hM.kp hk1
          refine lv_aload_n hx hb dL_law_395 rfl (lv_at hl 3 rfl) ?_
          refine lv_aload_n hx hb dL_law_396 rfl (lv_at hl 1 rfl) ?_
          refine lv_iload_n hx hb dL_law_397 rfl (lv_at hl 0 rfl) ?_
          refine lv_iconst (v := 1) hx hb dL_law_398 (by decide) ?_
          refine lv_iadd hx hb dL_law_399 ?_
          rw [show nI (5 * j) + 1 = nI (5 * j + 1) from nI_add (5 * j) 1]
          refine r_sld M hP hX hL31 (by omega) dL_law_400 ?_
          rw [e1]
          have hyo : ∃ e, w1 y = some (50, .inr (2, e)) := by obtain ⟨wy, a0, a1, a2, a3, a4, a5, a6, z, f0, f1, f2, f3, f4, f5, f6, h1, -⟩ := hM1; exact ⟨_, h1⟩
          obtain ⟨ey, hyo⟩ := hyo
          refine c_i (r_runV 1 M (m_mnumbers E hM1 hn s1) hP (Rc.of cdX2 hyo) (lw_V q653 q654 q655 q21 q656) (by decide +kernel) rfl ⟨Nat.le_of_ble_eq_true rfl, Nat.le_of_ble_eq_true rfl⟩ hl.1 rfl (Nat.le_of_ble_eq_true rfl) dL_law_401 ⟨by show 52 + 8 * j + 1 + 0 ≤ 600384; omega, by show 2011 + 310 * j + 4 + 0 ≤ 7288298; omega⟩) hP (fun r2 w2 H locs hq hP => ?_)
          obtain ⟨er2, hM2, hk2⟩ := hq
          have hD2 := hD1.kp hk2
          refine lv_icmp_eq (tgt := 483) hx hb dL_law_404 (by decide) (fun _ => ?_) (fun c9 => absurd (er1.trans er2.symm) c9)
          exact t483 _ w2 H locs _ _ (by show 52 + 8 * j + 1 + 0 ≤ 52 + 8 * (j + 1); omega) (by show 2011 + 310 * j + 4 + 0 ≤ 2011 + 310 * (j + 1); omega) (hW0.up hN) hD2 hM2 hP
        · refine lv_tableIn (tgt := 409) hx hb dL_law_32 (by decide +kernel) (by decide +kernel) rfl (by decide) ?_
          refine lv_aload_n hx hb dL_law_409 rfl (lv_at hl 2 rfl) ?_
          refine lv_aload_n hx hb dL_law_410 rfl (lv_at hl 1 rfl) ?_
          refine lv_iload_n hx hb dL_law_411 rfl (lv_at hl 0 rfl) ?_
          refine lv_iconst (v := 1) hx hb dL_law_412 (by decide) ?_
          refine lv_iadd hx hb dL_law_413 ?_
          rw [show nI (5 * j) + 1 = nI (5 * j + 1) from nI_add (5 * j) 1]
          refine r_sld M hP hX hL31 (by omega) dL_law_414 ?_
          rw [e1]
          refine lv_aload_n hx hb dL_law_415 rfl (lv_at hl 1 rfl) ?_
          refine lv_iload_n hx hb dL_law_416 rfl (lv_at hl 0 rfl) ?_
          refine lv_iconst (v := 2) hx hb dL_law_417 (by decide) ?_
          refine lv_iadd hx hb dL_law_418 ?_
          rw [show nI (5 * j) + 2 = nI (5 * j + 2) from nI_add (5 * j) 2]
          refine r_sld M hP hX hL31 (by omega) dL_law_419 ?_
          rw [e2]
          refine lv_aload_n hx hb dL_law_420 rfl (lv_at hl 1 rfl) ?_
          refine lv_iload_n hx hb dL_law_421 rfl (lv_at hl 0 rfl) ?_
          refine lv_iconst (v := 3) hx hb dL_law_422 (by decide) ?_
          refine lv_iadd hx hb dL_law_423 ?_
          rw [show nI (5 * j) + 3 = nI (5 * j + 3) from nI_add (5 * j) 3]
          refine r_sld M hP hX hL31 (by omega) dL_law_424 ?_
          rw [e3]
          refine lv_i2l hx hb dL_law_425 rfl ?_
          refine lv_bipush (v := 32) hx hb dL_law_426 (by decide) ?_
          refine lv_lshl hx hb dL_law_428 rfl ?_
          refine lv_aload_n hx hb dL_law_429 rfl (lv_at hl 1 rfl) ?_
          refine lv_iload_n hx hb dL_law_430 rfl (lv_at hl 0 rfl) ?_
          refine lv_iconst (v := 4) hx hb dL_law_431 (by decide) ?_
          refine lv_iadd hx hb dL_law_432 ?_
          rw [show nI (5 * j) + 4 = nI (5 * j + 4) from nI_add (5 * j) 4]
          refine r_sld M hP hX hL31 (by omega) dL_law_433 ?_
          rw [e4]
          refine lv_i2l hx hb dL_law_434 rfl ?_
          refine lv_ldc2 hx hb M.1.2.2.2.1 (M.1.2.2.2.2 _ q657) dL_law_435 ?_
          refine lv_land hx hb dL_law_438 ?_
          refine lv_lor hx hb dL_law_439 ?_
          have hxo : ∃ e, w' x = some (1, .inr (0, e)) := by obtain ⟨tl, rl, pa, ya, h1, -⟩ := hD; exact ⟨_, h1⟩
          obtain ⟨ex, hxo⟩ := hxo
          refine c_l (r_runV 3 M (m_dagain E hD hn hlen hfl s1 s2 (s3.toInt64 <<< ((32 : Int32).toInt64 &&& 63) ||| (s4.toInt64 &&& 4294967295))) hP (Rc.of cdX0 hxo) (lw_V q532 q533 q534 q12 q535) (by decide +kernel) rfl ⟨Nat.le_of_ble_eq_true rfl, Nat.le_of_ble_eq_true rfl⟩ hl.1 rfl (Nat.le_of_ble_eq_true rfl) dL_law_440 ⟨by show 52 + 8 * j + 5 ≤ 600384; omega, by show 2011 + 310 * j + 233 ≤ 7288298; omega⟩) hP (fun r1 w1 H locs hq hP => ?_)
          obtain ⟨er1, hD1, hk1⟩ := hq
          have hM1 := hM.kp hk1
          refine lv_aload_n hx hb dL_law_443 rfl (lv_at hl 3 rfl) ?_
          refine lv_aload_n hx hb dL_law_444 rfl (lv_at hl 1 rfl) ?_
          refine lv_iload_n hx hb dL_law_445 rfl (lv_at hl 0 rfl) ?_
          refine lv_iconst (v := 1) hx hb dL_law_446 (by decide) ?_
          refine lv_iadd hx hb dL_law_447 ?_
          rw [show nI (5 * j) + 1 = nI (5 * j + 1) from nI_add (5 * j) 1]
          refine r_sld M hP hX hL31 (by omega) dL_law_448 ?_
          rw [e1]
          refine lv_aload_n hx hb dL_law_449 rfl (lv_at hl 1 rfl) ?_
          refine lv_iload_n hx hb dL_law_450 rfl (lv_at hl 0 rfl) ?_
          refine lv_iconst (v := 2) hx hb dL_law_451 (by decide) ?_
          refine lv_iadd hx hb dL_law_452 ?_
          rw [show nI (5 * j) + 2 = nI (5 * j + 2) from nI_add (5 * j) 2]
          refine r_sld M hP hX hL31 (by omega) dL_law_453 ?_
          rw [e2]
          refine lv_aload_n hx hb dL_law_454 rfl (lv_at hl 1 rfl) ?_
          refine lv_iload_n hx hb dL_law_455 rfl (lv_at hl 0 rfl) ?_
          refine lv_iconst (v := 3) hx hb dL_law_456 (by decide) ?_
          refine lv_iadd hx hb dL_law_457 ?_
          rw [show nI (5 * j) + 3 = nI (5 * j + 3) from nI_add (5 * j) 3]
          refine r_sld M hP hX hL31 (by omega) dL_law_458 ?_
          rw [e3]
          refine lv_i2l hx hb dL_law_459 rfl ?_
          refine lv_bipush (v := 32) hx hb dL_law_460 (by decide) ?_
          refine lv_lshl hx hb dL_law_462 rfl ?_
          refine lv_aload_n hx hb dL_law_463 rfl (lv_at hl 1 rfl) ?_
          refine lv_iload_n hx hb dL_law_464 rfl (lv_at hl 0 rfl) ?_
          refine lv_iconst (v := 4) hx hb dL_law_465 (by decide) ?_
          refine lv_iadd hx hb dL_law_466 ?_
          rw [show nI (5 * j) + 4 = nI (5 * j + 4) from nI_add (5 * j) 4]
          refine r_sld M hP hX hL31 (by omega) dL_law_467 ?_
          rw [e4]
          refine lv_i2l hx hb dL_law_468 rfl ?_
          refine lv_ldc2 hx hb M.1.2.2.2.1 (M.1.2.2.2.2 _ q657) dL_law_469 ?_
          refine lv_land hx hb dL_law_472 ?_
          refine lv_lor hx hb dL_law_473 ?_
          have hyo : ∃ e, w1 y = some (50, .inr (2, e)) := by obtain ⟨wy, a0, a1, a2, a3, a4, a5, a6, z, f0, f1, f2, f3, f4, f5, f6, h1, -⟩ := hM1; exact ⟨_, h1⟩
          obtain ⟨ey, hyo⟩ := hyo
          refine c_l (r_runV 3 M (m_magain E hM1 hn hlen hfl hca2 s1 s2 (s3.toInt64 <<< ((32 : Int32).toInt64 &&& 63) ||| (s4.toInt64 &&& 4294967295))) hP (Rc.of cdX2 hyo) (lw_V q625 q626 q627 q21 q628) (by decide +kernel) rfl ⟨Nat.le_of_ble_eq_true rfl, Nat.le_of_ble_eq_true rfl⟩ hl.1 rfl (Nat.le_of_ble_eq_true rfl) dL_law_474 ⟨by show 52 + 8 * j + 5 + 0 ≤ 600384; omega, by show 2011 + 310 * j + 233 + 0 ≤ 7288298; omega⟩) hP (fun r2 w2 H locs hq hP => ?_)
          obtain ⟨er2, hM2, hk2⟩ := hq
          have hD2 := hD1.kp hk2
          refine W.lcmp hx hb dL_law_477 ?_
          refine lv_if_eq (tgt := 483) hx hb dL_law_478 (by decide) (fun _ => ?_) (fun c9 => absurd ((lg_cmp_eq r1 r2).mpr (er1.trans er2.symm)) c9)
          exact t483 _ w2 H locs _ _ (by show 52 + 8 * j + 5 + 0 ≤ 52 + 8 * (j + 1); omega) (by show 2011 + 310 * j + 233 + 0 ≤ 2011 + 310 * (j + 1); omega) (hW0.up hN) hD2 hM2 hP
        · refine lv_tableOut (tgt := 483) hx hb dL_law_32 (Or.inr (by rw [nI_toInt (by omega)]; omega)) (by decide) ?_
          exact t483 _ w' H locs _ _ (by omega) (by omega) (hW0.up hN) hD hM hP
  refine r_new M (fs := [.null, .null, .null, .int 0, .int 0, .int 0, .int 0, .int 0, .int 0]) 1 cdX0 hP q43 q44 q12 (fun j hj => by (first | (have : j = 0 := by omega) | skip); revert j; decide) (Nat.le_of_ble_eq_true rfl) (Nat.le_of_ble_eq_true rfl) dL_law_0 (fun x H nx hP => ?_)
  obtain ⟨w1, ew1⟩ : ∃ z : mm, z = mset w x (1, .inr (0, [.null, .null, .null, .int 0, .int 0, .int 0, .int 0, .int 0, .int 0])) := ⟨_, rfl⟩
  have hP := Px.re ew1 hP
  have hx1 : w1 x = some (1, .inr (0, [.null, .null, .null, .int 0, .int 0, .int 0, .int 0, .int 0, .int 0])) := by rw [ew1]; exact mset_self ..
  refine lv_dup hx hb dL_law_3 rfl ?_
  refine c_v (r_runI 0 M (m_dinit E hx1) hP q47 q12 q45 q46 rfl (by decide +kernel) rfl ⟨Nat.le_of_ble_eq_true rfl, Nat.le_of_ble_eq_true rfl⟩ hl.1 rfl (Nat.le_of_ble_eq_true rfl) dL_law_4 ⟨Nat.le_of_ble_eq_true rfl, Nat.le_of_ble_eq_true rfl⟩) hP (fun w2 H locs hq hP => ?_)
  obtain ⟨hD2, hk2⟩ := hq
  refine lv_astore_n (lv' := [(1, .ref x), (0, .ref b)]) hx hb dL_law_7 rfl hl (by decide) rfl (fun ls hl => ?_)
  refine r_new M (fs := [.null, .null, .null, .null, .null, .null, .null, .int 0, .int 0, .int 0, .int 0, .int 0, .int 0, .int 0, .int 0, .int 0]) 50 cdX2 hP q549 q550 q21 (fun j hj => by (first | (have : j = 0 := by omega) | skip); revert j; decide) (Nat.le_of_ble_eq_true rfl) (Nat.le_of_ble_eq_true rfl) dL_law_8 (fun y H ny hP => ?_)
  obtain ⟨w3, ew3⟩ : ∃ z : mm, z = mset w2 y (50, .inr (2, [.null, .null, .null, .null, .null, .null, .null, .int 0, .int 0, .int 0, .int 0, .int 0, .int 0, .int 0, .int 0, .int 0])) := ⟨_, rfl⟩
  have hP := Px.re ew3 hP
  have hy3 : w3 y = some (50, .inr (2, [.null, .null, .null, .null, .null, .null, .null, .int 0, .int 0, .int 0, .int 0, .int 0, .int 0, .int 0, .int 0, .int 0])) := by rw [ew3]; exact mset_self ..
  have hD3 := hD2.kp (show Kp NT w2 w3 by rw [ew3]; exact Kp.new ny)
  refine lv_dup hx hb dL_law_11 rfl ?_
  refine c_v (r_runI 0 M (m_minit E hy3) hP q553 q21 q551 q552 rfl (by decide +kernel) rfl ⟨Nat.le_of_ble_eq_true rfl, Nat.le_of_ble_eq_true rfl⟩ hl.1 rfl (Nat.le_of_ble_eq_true rfl) dL_law_12 ⟨Nat.le_of_ble_eq_true rfl, Nat.le_of_ble_eq_true rfl⟩) hP (fun w4 H locs hq hP => ?_)
  obtain ⟨hM4, hk4⟩ := hq
  have hD4 := hD3.kp hk4
  refine lv_astore_n (lv' := [(2, .ref y), (1, .ref x), (0, .ref b)]) hx hb dL_law_15 rfl hl (by decide) rfl (fun ls hl => ?_)
  refine lv_iconst (v := 0) hx hb dL_law_16 (by decide) ?_
  refine lv_istore_n (lv' := [(3, .int (nI (5 * 0))), (2, .ref y), (1, .ref x), (0, .ref b)]) hx hb dL_law_17 rfl hl (by decide) rfl (fun ls hl => ?_)
  have hl := lv_sub (l' := [(3, .int (nI (5 * 0))), (0, .ref b), (1, .ref x), (2, .ref y)]) hl [0, 3, 2, 1] rfl
  exact loop 65 0 x y A0 w4 H locs ls (by omega) (by omega) ⟨by decide, fun _ => Nat.zero_le _, fun _ => Nat.zero_le _, fun _ => Nat.le_refl _, by decide⟩ hD4 hM4 hP hl
end
section
/-! ===== the claim ===== -/
theorem whole_start {p : Program} {e : Env} {s : State} {m : MethodId} {below : List Frame} {meth : Method} {c : Code} {l : Launch} (hfl : l.flags = flags0) {b L : Nat} {xs : Nat → Int32} (hL : L ≤ 320) (C0 : lw_At p s m meth c b L xs) : W p l e room_1 s m #[Value.ref b] below meth c s.heap [] 0 0 (lw_Z below #[Value.ref b] s) (entryFrame m ([Value.ref b] : List Value).toArray 4) := by
  obtain ⟨hx, hb, hr, hml, hown, hts0, hX, hbl, hlk, hgv⟩ := C0
  obtain ⟨D, G, ad, E⟩ := Bs.start hfl hts0 hgv
  have hts : ∀ w ∈ lw_all, w.before #[Value.ref b] s = true := fun w h => hts0 w (lw_all_tbl h)
  have hl := lv_entry [Value.ref b] (n := 4) (Nat.le_of_ble_eq_true rfl)
  rw [lg_entry_eq]
  exact law_walk (w := fun _ => none) E ⟨⟨hx, hb, hml, hown, hts⟩, State.WarmedH.refl s, E.K⟩ hr hlk hX hL ⟨Nat.le_refl _, fun _ _ => rfl, fun _ _ _ h => (by cases h), fun _ h => (by cases h)⟩ hl
set_option maxHeartbeats 4000000 in
theorem lw_walk {l : Launch} (hfl : l.flags = flags0) (b : Addr) (xs : List Int32) : MetFree l x (headSpec (Jvm.Cond.code x code maxLocals ret :: tables_1) room_1) (lw_P b xs) (fun _ _ _ _ _ => True) lw_Q := by
  refine MetFree.of_bodyS (code := code) (maxLocals := maxLocals) (ret := ret) (by decide) ?_ ?_
  · intro args s m h hn
    obtain ⟨meth, c, h1, h2, h3, h4, h5, h6, -, -⟩ := Cond.code_spec hn (atoms_spec (ws := Jvm.Cond.code x code maxLocals ret :: tables_1) h _ List.mem_cons_self)
    exact ⟨meth, c, h1, h2, h3, h4, h5, h6⟩
  · intro p e s m args below meth c s₁ B hml0 hP _
    obtain ⟨rfl, hx, hbd, hgv⟩ := hP
    obtain ⟨scr, harrAt, hlist, hof, hsmall⟩ := hx
    obtain ⟨hcb, hkn, -, -⟩ := State.arrayAt?_spec harrAt
    have hown : s.vm.findClass R_law = some m.cls := findClass_of_methodNamed B.named
    have hts0 : ∀ c ∈ (Jvm.Cond.code x code maxLocals ret :: tables_1), c.before #[Value.ref b] s = true := atoms_spec (ws := Jvm.Cond.code x code maxLocals ret :: tables_1) B.pre
    have hts : ∀ w ∈ lw_tbl, w.before #[Value.ref b] s = true := k2_hts_sels lw_privs (fun w hw => hts0 w (List.mem_cons_of_mem _ hw)) lw_privs_ok
    have hml : c.maxLocals = 4 := B.maxLocals_eq (hts0 _ List.mem_cons_self)
    have X₀ : Stand p l e room_1 s m #[Value.ref b] below meth c s₁ [] 0 0 := Stand.of_body B
    have hh0 : s₁.heap = s.heap := by rw [B.state]; rfl
    have hsz : scr.slots.size = xs.length := by rw [← Array.length_toList, hlist, List.length_map]
    have hval : ∀ j : Nat, j < xs.length → scr.slots[j]? = some (.int (xs.getD j 0)) := fun j hj => by
      rw [← Array.getElem?_toList, hlist]
      simp [hj]
    have hbl : b < s.heap.size := (Array.getElem?_eq_some_iff.mp hcb).1
    have hX : va_X b xs.length (fun j => xs.getD j 0) s s.heap := ⟨scr, hcb, hof, hkn, hsz, hval⟩
    have K : W p l e room_1 s m #[Value.ref b] below meth c s₁.heap [] 0 0 (lw_Z below #[Value.ref b] s) (entryFrame m ([Value.ref b] : List Value).toArray 4) := by
      rw [hh0]
      exact whole_start hfl hbd ⟨B.exec, B.bytes, B.returns, hml, hown, hts, hX, hbl, B.notSynchronized, hgv⟩
    obtain ⟨t, a1, o, b1, b2, b3⟩ := K s₁ rfl X₀
    exact ⟨t, o, a1, b1, b2, b3⟩
theorem lw_pre_spec {args : Array Value} {s : State} (h : (Jvm.Cond.and given_1 narrow_1).before args s = true) (hr : rest_1_c.before args s = true) : ∃ (b : Addr) (xs : List Int32), lw_P b xs args s := by
  have hs := flat_of_before _ h
  have hq := flat_of_before _ hr
  have hc : (Cond.count 1).before args s = true := hs _ (by decide +kernel)
  have harr : (Cond.arrayOf (.arg 0) .int).before args s = true := hs _ (by decide +kernel)
  have hle : (Cond.le (.length (.arg 0)) (.int 320)).before args s = true := hs _ (by decide +kernel)
  have hlen : (Cond.isInt (.length (.arg 0))).before args s = true := hq _ (by decide +kernel)
  have hall : (Cond.all (.arg 0) (.isInt (.elem (.arg 0) (.index 0)))).before args s = true := hq _ (by decide +kernel)
  obtain ⟨b, xs, hb, hx⟩ := State.ints_of_pre rfl harr hlen hall
  have hsm : xs.length < 2 ^ 31 := hx.choose_spec.2.2.2
  have hev : (Term.length (.arg 0)).eval args s none [] s = some (.int xs.length.toInt32) := hx.length_eval hb
  have hv := Cond.le_ints hev (show (Term.int 320).eval args s none [] s = some (.int 320) from rfl)
  have hd : xs.length.toInt32 ≤ 320 := by
    simpa [Cond.before, Cond.holds, hv] using hle
  have hN : xs.length ≤ 320 := (Int32.ofNat_le_ofNat hsm (by decide)).mp (show Int32.ofNat xs.length ≤ Int32.ofNat 320 from hd)
  exact ⟨b, xs, Cond.one_arg hc (show args[0]? = some (.ref b) from hb), hx, hN, h⟩
theorem lw_comes {l : Launch} (hfl : l.flags = flags0) : Comes l x (Jvm.Cond.code x code maxLocals ret :: tables_1) room_1 (fun tb e args s => Calls_1 tb e args s ∧ rest_1 tb e args s ∧ Pre_1 tb e args s)
    (fun _ _ args s o t => lw_Q args s o t) := by
  intro p e ha hc hk s m args below hf hfit hheap happ hpre
  obtain ⟨b, xs, hP⟩ := lw_pre_spec hpre.2.2 hpre.2.1
  obtain ⟨k, o, h1, h2, h3, hQ⟩ := lw_walk hfl b xs p e ha hc hk s m args below hf ((Spec.applies_iff_loose hf).mp happ).1 hP trivial
  exact ⟨k, o, h1, h2, h3, hQ⟩
theorem lw_frame {s t : State} {o : Outcome} {args : Array Value} (h : Framed s o t [] 600384 7288298) :
    Framed s o t (fieldLocs frame_1_writes args s ++ arrayLocs frame_1_arrays args s ++ staticLocs frame_1_statics s) 600384 7288298 := h
theorem lw_limb (L : Cond) (hL : ∀ (args : Array Value) (s t : State), L.after args s (.returned (some (.int 1))) t = true) :
    ArmFor flags0 classFile x code maxLocals ret World_1 tables_1 room_1 Calls_1 rest_1 Pre_1
      (fun tb e a s o t => postC L tb e a s o t ∧ Framed s o t (fieldLocs frame_1_writes a s ++ arrayLocs frame_1_arrays a s ++ staticLocs frame_1_statics s) 600384 7288298) := by
  intro l hfl _ _ p e ha hc hk s m args below hf hfit hheap happ hpre
  obtain ⟨k, o, h1, h2, h3, rfl, hF⟩ := lw_comes hfl p e ha hc hk s m args below hf hfit hheap happ hpre
  exact ⟨k, _, h1, h2, h3, hL args s _, lw_frame hF⟩
theorem i_vc : Claimed_1_1 ∧ Claimed_1_2 := ⟨lw_limb limb_1_1 (fun args s t => by simp [limb_1_1, Cond.after, Cond.holds, Cond.value]), lw_limb limb_1_2 (fun args s t => Cond.after_iff.mpr (by
  first | (rw [show limb_1_2 = Cond.eq .result (.int 1) from rfl, Cond.eq_ints (x := 1) (y := 1) rfl rfl]; simp; done) | (simp [limb_1_2, Cond.value, Term.eval]; done)))⟩
end
