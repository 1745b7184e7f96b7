section
-- ===== PART A: goes FIRST, ahead of the names: the tables' words, and 'selects' of the private methods out of them =====
/-- a private method of a class that the tables say can be made, by its rows of tables_1 -/
def lw_okq (q : MethodName × Nat) : Prop := (q.1.cls ≠ "java/lang/invoke/MethodHandle" ∧ q.1.cls ≠ "java/lang/invoke/VarHandle") ∧ Cond.instantiable q.1.cls q.2 ∈ tables_1 ∧ Cond.privateMethod q.1 ∈ tables_1 ∧ Cond.instanceMethod q.1 ∈ tables_1
set_option maxRecDepth 100000
theorem lw_p0 : lw_okq (⟨"MeanGroups", "nearestGroup", "(I)I"⟩, 16) := ⟨⟨by decide +kernel, by decide +kernel⟩, List.mem_of_getElem? (i := 4) rfl, List.mem_of_getElem? (i := 91) rfl, List.mem_of_getElem? (i := 92) rfl⟩
theorem lw_p1 : lw_okq (⟨"MeanGroups", "measure", "(II)V"⟩, 16) := ⟨⟨by decide +kernel, by decide +kernel⟩, List.mem_of_getElem? (i := 4) rfl, List.mem_of_getElem? (i := 95) rfl, List.mem_of_getElem? (i := 96) rfl⟩
theorem lw_p2 : lw_okq (⟨"MeanGroups", "farBeyond", "(IIJJ)Z"⟩, 16) := ⟨⟨by decide +kernel, by decide +kernel⟩, List.mem_of_getElem? (i := 4) rfl, List.mem_of_getElem? (i := 99) rfl, List.mem_of_getElem? (i := 100) rfl⟩
theorem lw_p3 : lw_okq (⟨"MeanGroups", "measureMiddles", "(II)V"⟩, 16) := ⟨⟨by decide +kernel, by decide +kernel⟩, List.mem_of_getElem? (i := 4) rfl, List.mem_of_getElem? (i := 103) rfl, List.mem_of_getElem? (i := 104) rfl⟩
theorem lw_p4 : lw_okq (⟨"MeanGroups", "moveMiddles", "()V"⟩, 16) := ⟨⟨by decide +kernel, by decide +kernel⟩, List.mem_of_getElem? (i := 4) rfl, List.mem_of_getElem? (i := 108) rfl, List.mem_of_getElem? (i := 109) rfl⟩
theorem lw_p5 : lw_okq (⟨"MeanGroups", "isNearest", "(II)Z"⟩, 16) := ⟨⟨by decide +kernel, by decide +kernel⟩, List.mem_of_getElem? (i := 4) rfl, List.mem_of_getElem? (i := 133) rfl, List.mem_of_getElem? (i := 134) rfl⟩
theorem lw_p6 : lw_okq (⟨"MeanGroupsModel", "nearest", "(I)I"⟩, 10) := ⟨⟨by decide +kernel, by decide +kernel⟩, List.mem_of_getElem? (i := 137) rfl, List.mem_of_getElem? (i := 202) rfl, List.mem_of_getElem? (i := 203) rfl⟩
theorem lw_p7 : lw_okq (⟨"MeanGroupsModel", "nearer", "(III)Z"⟩, 10) := ⟨⟨by decide +kernel, by decide +kernel⟩, List.mem_of_getElem? (i := 137) rfl, List.mem_of_getElem? (i := 206) rfl, List.mem_of_getElem? (i := 207) rfl⟩
theorem lw_p8 : lw_okq (⟨"MeanGroupsModel", "far", "(II)J"⟩, 10) := ⟨⟨by decide +kernel, by decide +kernel⟩, List.mem_of_getElem? (i := 137) rfl, List.mem_of_getElem? (i := 210) rfl, List.mem_of_getElem? (i := 211) rfl⟩
def lw_privs_1 : List (MethodName × Nat) := [(⟨"MeanGroups", "nearestGroup", "(I)I"⟩, 16), (⟨"MeanGroups", "measure", "(II)V"⟩, 16), (⟨"MeanGroups", "farBeyond", "(IIJJ)Z"⟩, 16), (⟨"MeanGroups", "measureMiddles", "(II)V"⟩, 16), (⟨"MeanGroups", "moveMiddles", "()V"⟩, 16), (⟨"MeanGroups", "isNearest", "(II)Z"⟩, 16), (⟨"MeanGroupsModel", "nearest", "(I)I"⟩, 10), (⟨"MeanGroupsModel", "nearer", "(III)Z"⟩, 10), (⟨"MeanGroupsModel", "far", "(II)J"⟩, 10)]
theorem lw_r1 : ∀ q ∈ lw_privs_1, lw_okq q := List.forall_mem_cons.mpr ⟨lw_p0, List.forall_mem_cons.mpr ⟨lw_p1, List.forall_mem_cons.mpr ⟨lw_p2, List.forall_mem_cons.mpr ⟨lw_p3, List.forall_mem_cons.mpr ⟨lw_p4, List.forall_mem_cons.mpr ⟨lw_p5, List.forall_mem_cons.mpr ⟨lw_p6, List.forall_mem_cons.mpr ⟨lw_p7, List.forall_mem_cons.mpr ⟨lw_p8, fun _ h => absurd h List.not_mem_nil⟩⟩⟩⟩⟩⟩⟩⟩⟩
def lw_privs : List (MethodName × Nat) := lw_privs_1
def lw_tbl : List Cond := k2_sels lw_privs ++ tables_1
theorem lw_privs_ok : ∀ q ∈ lw_privs, lw_okq q := lw_r1
-- ===== ONE list of words for every method: the tables' words that hold all through a run =====
def lw_all : List Cond := lw_tbl.filter goodWord
/-- a word of the tables by its place: claim/WORDS.tsv -/
theorem lw_w {w : Cond} (i : Nat) (h : lw_tbl[i]? = some w) (g : goodWord w = true) : w ∈ lw_all := List.mem_filter.mpr ⟨List.mem_of_getElem? h, g⟩
theorem lw_all_tbl {w : Cond} (h : w ∈ lw_all) : w ∈ lw_tbl := (List.mem_filter.mp h).1
theorem lw_self : GoodIn lw_all lw_all := fun w h => ⟨h, good_of_word (List.mem_filter.mp h).2⟩
/-- a class's field words, by their places -/
theorem lw_in (ws : List Cond) (ps : List Nat) (hp : ws = ps.filterMap (fun i => lw_tbl[i]?)) (hg : ws.all goodWord = true) : ∀ w ∈ ws, w ∈ lw_all := by
  intro w h
  have h1 := List.all_eq_true.mp hg w h
  rw [hp] at h
  obtain ⟨i, -, hi⟩ := List.mem_filterMap.mp h
  exact lw_w i hi h1
/-- the words of a contract for the method y with code b, L locals, answer r -/
abbrev ws_ (y : MethodName) (b : ByteArray) (L : Nat) (r : Option FieldType) : List Cond := Cond.code y b L r :: lw_all
theorem lw_meth {y : MethodName} {b : ByteArray} {L : Nat} {r : Option FieldType} (h : Cond.code y b L r ∈ lw_all) : GoodIn lw_all (ws_ y b L r) := by
  intro w hw
  rcases List.mem_cons.mp hw with e | e
  · rw [e]
    exact lw_self _ h
  · exact lw_self _ e
theorem lw_app {a c : List Cond} (ha : ∀ w ∈ a, w ∈ lw_all) (hc : GoodIn lw_all c) : GoodIn lw_all (a ++ c) := by
  intro w hw
  rcases List.mem_append.mp hw with e | e
  · exact lw_self w (ha w e)
  · exact hc w e
/-- what a call through an object asks: cwV n hts (lw_V ..) -/
theorem lw_V {own : String} {idx : Nat} {C : String} {y : MethodName} {b : ByteArray} {L : Nat} {r : Option FieldType} (h1 : Cond.methodLink own idx y ∈ lw_all) (h2 : Cond.instanceMethod y ∈ lw_all) (h3 : Cond.selects C y y ∈ lw_all) (h4 : Cond.initialized C ∈ lw_all) (h5 : Cond.code y b L r ∈ lw_all) : GoodIn lw_all (wsV own idx C y (ws_ y b L r)) := by
  refine lw_app ?_ (lw_meth h5)
  intro w hw
  simp only [List.mem_cons, List.not_mem_nil, or_false] at hw
  rcases hw with e | e | e | e
  · rw [e]; exact h1
  · rw [e]; exact h2
  · rw [e]; exact h3
  · rw [e]; exact h4
/-- what a static call asks: va_cwS n hts (lw_S ..) -/
theorem lw_S {own : String} {idx : Nat} {y : MethodName} {b : ByteArray} {L : Nat} {r : Option FieldType} (h1 : Cond.methodLink own idx y ∈ lw_all) (h2 : Cond.static y ∈ lw_all) (h3 : Cond.initialized y.cls ∈ lw_all) (h4 : Cond.code y b L r ∈ lw_all) : GoodIn lw_all (va_wsS own idx y (ws_ y b L r)) := by
  refine lw_app ?_ (lw_meth h4)
  intro w hw
  simp only [List.mem_cons, List.not_mem_nil, or_false] at hw
  rcases hw with e | e | e
  · rw [e]; exact h1
  · rw [e]; exact h2
  · rw [e]; exact h3
/-- the words of a contract for a method WITH HANDLERS (hh: its table) -/
abbrev wsW_ (y : MethodName) (b : ByteArray) (L : Nat) (r : Option FieldType) (hh : List (Nat × Nat × Nat × Nat)) : List Cond := Cond.codeWith y b L r hh :: lw_all
theorem lw_methW {y : MethodName} {b : ByteArray} {L : Nat} {r : Option FieldType} {hh : List (Nat × Nat × Nat × Nat)} (h : Cond.codeWith y b L r hh ∈ lw_all) : GoodIn lw_all (wsW_ y b L r hh) := by
  intro w hw
  rcases List.mem_cons.mp hw with e | e
  · rw [e]
    exact lw_self _ h
  · exact lw_self _ e
/-- any list of words by their places (lw_in), good -/
theorem lw_good {ws : List Cond} (h : ∀ w ∈ ws, w ∈ lw_all) : GoodIn lw_all ws := fun w hw => lw_self w (h w hw)
/-- what a call of a method with handlers asks: vx_cwVW n hts (lw_VW ..), vx_cwSW n hts (lw_SW ..) -/
theorem lw_VW {own : String} {idx : Nat} {C : String} {y : MethodName} {b : ByteArray} {L : Nat} {r : Option FieldType} {hh : List (Nat × Nat × Nat × Nat)} (h1 : Cond.methodLink own idx y ∈ lw_all) (h2 : Cond.instanceMethod y ∈ lw_all) (h3 : Cond.selects C y y ∈ lw_all) (h4 : Cond.initialized C ∈ lw_all) (h5 : Cond.codeWith y b L r hh ∈ lw_all) : GoodIn lw_all (wsV own idx C y (wsW_ y b L r hh)) := by
  refine lw_app ?_ (lw_methW h5)
  intro w hw
  simp only [List.mem_cons, List.not_mem_nil, or_false] at hw
  rcases hw with e | e | e | e
  · rw [e]; exact h1
  · rw [e]; exact h2
  · rw [e]; exact h3
  · rw [e]; exact h4
theorem lw_SW {own : String} {idx : Nat} {y : MethodName} {b : ByteArray} {L : Nat} {r : Option FieldType} {hh : List (Nat × Nat × Nat × Nat)} (h1 : Cond.methodLink own idx y ∈ lw_all) (h2 : Cond.static y ∈ lw_all) (h3 : Cond.initialized y.cls ∈ lw_all) (h4 : Cond.codeWith y b L r hh ∈ lw_all) : GoodIn lw_all (va_wsS own idx y (wsW_ y b L r hh)) := by
  refine lw_app ?_ (lw_methW h4)
  intro w hw
  simp only [List.mem_cons, List.not_mem_nil, or_false] at hw
  rcases hw with e | e | e
  · rw [e]; exact h1
  · rw [e]; exact h2
  · rw [e]; exact h3
/-- a word by its place in its run of the tables -/
theorem lw_at {r : List Cond} (hr : ∀ w ∈ r, w ∈ lw_tbl) {w : Cond} (i : Nat) (h : r[i]? = some w) : w ∈ lw_tbl := hr w (List.mem_of_getElem? h)
theorem lw_g {w : Cond} (h : w ∈ lw_tbl) (g : goodWord w = true) : w ∈ lw_all := List.mem_filter.mpr ⟨h, g⟩
theorem lw_ms : ∀ w ∈ k2_sels lw_privs, w ∈ lw_tbl := fun w h => show w ∈ k2_sels lw_privs ++ tables_1 from List.mem_append_left _ h
theorem lw_m0 : ∀ w ∈ tables_1, w ∈ lw_tbl := fun w h => show w ∈ k2_sels lw_privs ++ tables_1 from List.mem_append_right (k2_sels lw_privs) h
theorem qs0 : (Cond.selects "MeanGroups" ⟨"MeanGroups", "nearestGroup", "(I)I"⟩ ⟨"MeanGroups", "nearestGroup", "(I)I"⟩) ∈ lw_all := lw_g (lw_at lw_ms 0 rfl) rfl
theorem qs1 : (Cond.selects "MeanGroups" ⟨"MeanGroups", "measure", "(II)V"⟩ ⟨"MeanGroups", "measure", "(II)V"⟩) ∈ lw_all := lw_g (lw_at lw_ms 1 rfl) rfl
theorem qs2 : (Cond.selects "MeanGroups" ⟨"MeanGroups", "farBeyond", "(IIJJ)Z"⟩ ⟨"MeanGroups", "farBeyond", "(IIJJ)Z"⟩) ∈ lw_all := lw_g (lw_at lw_ms 2 rfl) rfl
theorem qs3 : (Cond.selects "MeanGroups" ⟨"MeanGroups", "measureMiddles", "(II)V"⟩ ⟨"MeanGroups", "measureMiddles", "(II)V"⟩) ∈ lw_all := lw_g (lw_at lw_ms 3 rfl) rfl
theorem qs4 : (Cond.selects "MeanGroups" ⟨"MeanGroups", "moveMiddles", "()V"⟩ ⟨"MeanGroups", "moveMiddles", "()V"⟩) ∈ lw_all := lw_g (lw_at lw_ms 4 rfl) rfl
theorem qs5 : (Cond.selects "MeanGroups" ⟨"MeanGroups", "isNearest", "(II)Z"⟩ ⟨"MeanGroups", "isNearest", "(II)Z"⟩) ∈ lw_all := lw_g (lw_at lw_ms 5 rfl) rfl
theorem qs6 : (Cond.selects "MeanGroupsModel" ⟨"MeanGroupsModel", "nearest", "(I)I"⟩ ⟨"MeanGroupsModel", "nearest", "(I)I"⟩) ∈ lw_all := lw_g (lw_at lw_ms 6 rfl) rfl
theorem qs7 : (Cond.selects "MeanGroupsModel" ⟨"MeanGroupsModel", "nearer", "(III)Z"⟩ ⟨"MeanGroupsModel", "nearer", "(III)Z"⟩) ∈ lw_all := lw_g (lw_at lw_ms 7 rfl) rfl
theorem qs8 : (Cond.selects "MeanGroupsModel" ⟨"MeanGroupsModel", "far", "(II)J"⟩ ⟨"MeanGroupsModel", "far", "(II)J"⟩) ∈ lw_all := lw_g (lw_at lw_ms 8 rfl) rfl
theorem q73 : (Jvm.Cond.arrayClass Jvm.ClassFile.FieldType.int) ∈ lw_all := lw_g (lw_at lw_m0 64 rfl) rfl
theorem q74 : (Jvm.Cond.arrayClass Jvm.ClassFile.FieldType.boolean) ∈ lw_all := lw_g (lw_at lw_m0 65 rfl) rfl
/-! java/lang/Object -/
def RJ0 : String := "java/lang/Object"
abbrev cJ0_init : ByteArray := object_method_1_code
def yJ0_init : MethodName := ⟨RJ0, "<init>", "()V"⟩
theorem dJ0_init_0 : decode cJ0_init 0 = .ok (.return_, 1) := by decide +kernel
theorem q18 : (Jvm.Cond.instanceMethod ({ cls := "java/lang/Object", name := "<init>", desc := "()V" } : Jvm.MethodName)) ∈ lw_all := lw_g (lw_at lw_m0 9 rfl) rfl
theorem q19 : (Jvm.Cond.code ({ cls := "java/lang/Object", name := "<init>", desc := "()V" } : Jvm.MethodName) object_method_1_code (1 : Nat) (Option.none : Option Jvm.ClassFile.FieldType)) ∈ lw_all := lw_g (lw_at lw_m0 10 rfl) rfl
theorem q9 : (Jvm.Cond.initialized "MeanGroupsLaw") ∈ lw_all := lw_g (lw_at lw_m0 0 rfl) rfl
theorem q12 : (Jvm.Cond.classLink "MeanGroupsLaw" (7 : Nat) "MeanGroups") ∈ lw_all := lw_g (lw_at lw_m0 3 rfl) rfl
theorem q14 : (Jvm.Cond.methodLink "MeanGroupsLaw" (9 : Nat) ({ cls := "MeanGroups", name := "<init>", desc := "()V" } : Jvm.MethodName)) ∈ lw_all := lw_g (lw_at lw_m0 5 rfl) rfl
theorem q75 : (Jvm.Cond.methodLink "MeanGroupsLaw" (13 : Nat) ({ cls := "MeanGroups", name := "add", desc := "(II)I" } : Jvm.MethodName)) ∈ lw_all := lw_g (lw_at lw_m0 66 rfl) rfl
theorem q82 : (Jvm.Cond.methodLink "MeanGroupsLaw" (18 : Nat) ({ cls := "MeanGroups", name := "drop", desc := "(I)I" } : Jvm.MethodName)) ∈ lw_all := lw_g (lw_at lw_m0 73 rfl) rfl
theorem q86 : (Jvm.Cond.methodLink "MeanGroupsLaw" (23 : Nat) ({ cls := "MeanGroups", name := "seed", desc := "(III)I" } : Jvm.MethodName)) ∈ lw_all := lw_g (lw_at lw_m0 77 rfl) rfl
theorem q90 : (Jvm.Cond.methodLink "MeanGroupsLaw" (28 : Nat) ({ cls := "MeanGroups", name := "groups", desc := "(I)V" } : Jvm.MethodName)) ∈ lw_all := lw_g (lw_at lw_m0 81 rfl) rfl
theorem q94 : (Jvm.Cond.methodLink "MeanGroupsLaw" (33 : Nat) ({ cls := "MeanGroups", name := "reset", desc := "()V" } : Jvm.MethodName)) ∈ lw_all := lw_g (lw_at lw_m0 85 rfl) rfl
theorem q95 : (Jvm.Cond.methodLink "MeanGroupsLaw" (37 : Nat) ({ cls := "MeanGroups", name := "round", desc := "()I" } : Jvm.MethodName)) ∈ lw_all := lw_g (lw_at lw_m0 86 rfl) rfl
theorem q120 : (Jvm.Cond.methodLink "MeanGroupsLaw" (42 : Nat) ({ cls := "MeanGroups", name := "settle", desc := "()I" } : Jvm.MethodName)) ∈ lw_all := lw_g (lw_at lw_m0 111 rfl) rfl
theorem q125 : (Jvm.Cond.methodLink "MeanGroupsLaw" (46 : Nat) ({ cls := "MeanGroups", name := "group", desc := "(I)I" } : Jvm.MethodName)) ∈ lw_all := lw_g (lw_at lw_m0 116 rfl) rfl
theorem q129 : (Jvm.Cond.methodLink "MeanGroupsLaw" (50 : Nat) ({ cls := "MeanGroups", name := "size", desc := "(I)I" } : Jvm.MethodName)) ∈ lw_all := lw_g (lw_at lw_m0 120 rfl) rfl
theorem q133 : (Jvm.Cond.methodLink "MeanGroupsLaw" (54 : Nat) ({ cls := "MeanGroups", name := "sum", desc := "(II)I" } : Jvm.MethodName)) ∈ lw_all := lw_g (lw_at lw_m0 124 rfl) rfl
theorem q137 : (Jvm.Cond.methodLink "MeanGroupsLaw" (58 : Nat) ({ cls := "MeanGroups", name := "near", desc := "(I)I" } : Jvm.MethodName)) ∈ lw_all := lw_g (lw_at lw_m0 128 rfl) rfl
theorem q145 : (Jvm.Cond.classLink "MeanGroupsLaw" (10 : Nat) "MeanGroupsModel") ∈ lw_all := lw_g (lw_at lw_m0 136 rfl) rfl
theorem q147 : (Jvm.Cond.methodLink "MeanGroupsLaw" (12 : Nat) ({ cls := "MeanGroupsModel", name := "<init>", desc := "()V" } : Jvm.MethodName)) ∈ lw_all := lw_g (lw_at lw_m0 138 rfl) rfl
theorem q186 : (Jvm.Cond.methodLink "MeanGroupsLaw" (17 : Nat) ({ cls := "MeanGroupsModel", name := "add", desc := "(II)I" } : Jvm.MethodName)) ∈ lw_all := lw_g (lw_at lw_m0 177 rfl) rfl
theorem q193 : (Jvm.Cond.methodLink "MeanGroupsLaw" (22 : Nat) ({ cls := "MeanGroupsModel", name := "drop", desc := "(I)I" } : Jvm.MethodName)) ∈ lw_all := lw_g (lw_at lw_m0 184 rfl) rfl
theorem q197 : (Jvm.Cond.methodLink "MeanGroupsLaw" (27 : Nat) ({ cls := "MeanGroupsModel", name := "seed", desc := "(III)I" } : Jvm.MethodName)) ∈ lw_all := lw_g (lw_at lw_m0 188 rfl) rfl
theorem q201 : (Jvm.Cond.methodLink "MeanGroupsLaw" (32 : Nat) ({ cls := "MeanGroupsModel", name := "groups", desc := "(I)V" } : Jvm.MethodName)) ∈ lw_all := lw_g (lw_at lw_m0 192 rfl) rfl
theorem q205 : (Jvm.Cond.methodLink "MeanGroupsLaw" (36 : Nat) ({ cls := "MeanGroupsModel", name := "reset", desc := "()V" } : Jvm.MethodName)) ∈ lw_all := lw_g (lw_at lw_m0 196 rfl) rfl
theorem q206 : (Jvm.Cond.methodLink "MeanGroupsLaw" (41 : Nat) ({ cls := "MeanGroupsModel", name := "round", desc := "()I" } : Jvm.MethodName)) ∈ lw_all := lw_g (lw_at lw_m0 197 rfl) rfl
theorem q230 : (Jvm.Cond.methodLink "MeanGroupsLaw" (45 : Nat) ({ cls := "MeanGroupsModel", name := "settle", desc := "()I" } : Jvm.MethodName)) ∈ lw_all := lw_g (lw_at lw_m0 221 rfl) rfl
theorem q235 : (Jvm.Cond.methodLink "MeanGroupsLaw" (49 : Nat) ({ cls := "MeanGroupsModel", name := "group", desc := "(I)I" } : Jvm.MethodName)) ∈ lw_all := lw_g (lw_at lw_m0 226 rfl) rfl
theorem q239 : (Jvm.Cond.methodLink "MeanGroupsLaw" (53 : Nat) ({ cls := "MeanGroupsModel", name := "size", desc := "(I)I" } : Jvm.MethodName)) ∈ lw_all := lw_g (lw_at lw_m0 230 rfl) rfl
theorem q240 : (Jvm.Cond.methodLink "MeanGroupsLaw" (57 : Nat) ({ cls := "MeanGroupsModel", name := "sum", desc := "(II)I" } : Jvm.MethodName)) ∈ lw_all := lw_g (lw_at lw_m0 231 rfl) rfl
theorem q241 : (Jvm.Cond.methodLink "MeanGroupsLaw" (61 : Nat) ({ cls := "MeanGroupsModel", name := "near", desc := "(I)I" } : Jvm.MethodName)) ∈ lw_all := lw_g (lw_at lw_m0 232 rfl) rfl
end
section
/-! MeanGroups -/
set_option maxRecDepth 100000
def RX0 : String := "MeanGroups"
def TX0 : u_T := fun k => match k with
  | 0 => ("MeanGroups", "points", "I", false)
  | 1 => ("MeanGroups", "x", "[I", true)
  | 2 => ("MeanGroups", "y", "[I", true)
  | 3 => ("MeanGroups", "k", "I", false)
  | 4 => ("MeanGroups", "seedX", "[I", true)
  | 5 => ("MeanGroups", "seedY", "[I", true)
  | 6 => ("MeanGroups", "midX", "[I", true)
  | 7 => ("MeanGroups", "midY", "[I", true)
  | 8 => ("MeanGroups", "midCount", "[I", true)
  | 9 => ("MeanGroups", "moved", "[Z", true)
  | 10 => ("MeanGroups", "member", "[I", true)
  | 11 => ("MeanGroups", "sumX", "[I", true)
  | 12 => ("MeanGroups", "sumY", "[I", true)
  | 13 => ("MeanGroups", "count", "[I", true)
  | 14 => ("MeanGroups", "upper", "J", false)
  | _ => ("MeanGroups", "lower", "J", false)
def tyX0 : Nat → FieldType := fun k => match k with
  | 0 => .int
  | 1 => .array .int
  | 2 => .array .int
  | 3 => .int
  | 4 => .array .int
  | 5 => .array .int
  | 6 => .array .int
  | 7 => .array .int
  | 8 => .array .int
  | 9 => .array .boolean
  | 10 => .array .int
  | 11 => .array .int
  | 12 => .array .int
  | 13 => .array .int
  | 14 => .long
  | _ => .long
abbrev wsX00 : List Cond := u_ws RX0 TX0 16
set_option maxRecDepth 100000 in
theorem nmX0 : ∀ a, a < 16 → ∀ b, b < 16 → a ≠ b → (TX0 a).2.1 ≠ (TX0 b).2.1 := by decide +kernel
set_option maxRecDepth 100000 in
theorem tyX0_ok : ∀ k, k < 16 → parseFieldDescriptor (TX0 k).2.2.1 = some (tyX0 k) := by decide +kernel
abbrev cX0_init : ByteArray := prog_1_method_1_code
def yX0_init : MethodName := ⟨RX0, "<init>", "()V"⟩
abbrev cX0_reset : ByteArray := prog_1_method_6_code
def yX0_reset : MethodName := ⟨RX0, "reset", "()V"⟩
abbrev cX0_add : ByteArray := prog_1_method_2_code
def yX0_add : MethodName := ⟨RX0, "add", "(II)I"⟩
abbrev cX0_inRange : ByteArray := prog_1_method_13_code
def yX0_inRange : MethodName := ⟨RX0, "inRange", "(I)Z"⟩
abbrev cX0_drop : ByteArray := prog_1_method_3_code
def yX0_drop : MethodName := ⟨RX0, "drop", "(I)I"⟩
abbrev cX0_seed : ByteArray := prog_1_method_4_code
def yX0_seed : MethodName := ⟨RX0, "seed", "(III)I"⟩
abbrev cX0_groups : ByteArray := prog_1_method_5_code
def yX0_groups : MethodName := ⟨RX0, "groups", "(I)V"⟩
abbrev cX0_round : ByteArray := prog_1_method_7_code
def yX0_round : MethodName := ⟨RX0, "round", "()I"⟩
abbrev cX0_nearestGroup : ByteArray := prog_1_method_17_code
def yX0_nearestGroup : MethodName := ⟨RX0, "nearestGroup", "(I)I"⟩
abbrev cX0_measure : ByteArray := prog_1_method_14_code
def yX0_measure : MethodName := ⟨RX0, "measure", "(II)V"⟩
abbrev cX0_farBeyond : ByteArray := prog_1_method_18_code
def yX0_farBeyond : MethodName := ⟨RX0, "farBeyond", "(IIJJ)Z"⟩
abbrev cX0_measureMiddles : ByteArray := prog_1_method_15_code
def yX0_measureMiddles : MethodName := ⟨RX0, "measureMiddles", "(II)V"⟩
abbrev cX0_moveMiddles : ByteArray := prog_1_method_19_code
def yX0_moveMiddles : MethodName := ⟨RX0, "moveMiddles", "()V"⟩
abbrev cX0_settle : ByteArray := prog_1_method_8_code
def yX0_settle : MethodName := ⟨RX0, "settle", "()I"⟩
abbrev cX0_group : ByteArray := prog_1_method_9_code
def yX0_group : MethodName := ⟨RX0, "group", "(I)I"⟩
abbrev cX0_size : ByteArray := prog_1_method_10_code
def yX0_size : MethodName := ⟨RX0, "size", "(I)I"⟩
abbrev cX0_sum : ByteArray := prog_1_method_11_code
def yX0_sum : MethodName := ⟨RX0, "sum", "(II)I"⟩
abbrev cX0_near : ByteArray := prog_1_method_12_code
def yX0_near : MethodName := ⟨RX0, "near", "(I)I"⟩
abbrev cX0_isNearest : ByteArray := prog_1_method_16_code
def yX0_isNearest : MethodName := ⟨RX0, "isNearest", "(II)Z"⟩
theorem q10 : (Jvm.Cond.initialized "MeanGroups") ∈ lw_all := lw_g (lw_at lw_m0 1 rfl) rfl
theorem q13 : (Jvm.Cond.instantiable "MeanGroups" (16 : Nat)) ∈ lw_all := lw_g (lw_at lw_m0 4 rfl) rfl
theorem q15 : (Jvm.Cond.instanceMethod ({ cls := "MeanGroups", name := "<init>", desc := "()V" } : Jvm.MethodName)) ∈ lw_all := lw_g (lw_at lw_m0 6 rfl) rfl
theorem q16 : (Jvm.Cond.code ({ cls := "MeanGroups", name := "<init>", desc := "()V" } : Jvm.MethodName) prog_1_method_1_code (1 : Nat) (Option.none : Option Jvm.ClassFile.FieldType)) ∈ lw_all := lw_g (lw_at lw_m0 7 rfl) rfl
theorem q17 : (Jvm.Cond.methodLink "MeanGroups" (1 : Nat) ({ cls := "java/lang/Object", name := "<init>", desc := "()V" } : Jvm.MethodName)) ∈ lw_all := lw_g (lw_at lw_m0 8 rfl) rfl
theorem q20 : (Jvm.Cond.methodLink "MeanGroups" (51 : Nat) ({ cls := "MeanGroups", name := "reset", desc := "()V" } : Jvm.MethodName)) ∈ lw_all := lw_g (lw_at lw_m0 11 rfl) rfl
theorem q21 : (Jvm.Cond.instanceMethod ({ cls := "MeanGroups", name := "reset", desc := "()V" } : Jvm.MethodName)) ∈ lw_all := lw_g (lw_at lw_m0 12 rfl) rfl
theorem q22 : (Jvm.Cond.selects "MeanGroups" ({ cls := "MeanGroups", name := "reset", desc := "()V" } : Jvm.MethodName) ({ cls := "MeanGroups", name := "reset", desc := "()V" } : Jvm.MethodName)) ∈ lw_all := lw_g (lw_at lw_m0 13 rfl) rfl
theorem q23 : (Jvm.Cond.code ({ cls := "MeanGroups", name := "reset", desc := "()V" } : Jvm.MethodName) prog_1_method_6_code (2 : Nat) (Option.none : Option Jvm.ClassFile.FieldType)) ∈ lw_all := lw_g (lw_at lw_m0 14 rfl) rfl
theorem q24 : (Jvm.Cond.fieldLink "MeanGroups" (58 : Nat) "MeanGroups" "points" "I") ∈ lw_all := lw_g (lw_at lw_m0 15 rfl) rfl
theorem q25 : (Jvm.Cond.fieldLink "MeanGroups" (7 : Nat) "MeanGroups" "x" "[I") ∈ lw_all := lw_g (lw_at lw_m0 16 rfl) rfl
theorem q26 : (Jvm.Cond.fieldLink "MeanGroups" (13 : Nat) "MeanGroups" "y" "[I") ∈ lw_all := lw_g (lw_at lw_m0 17 rfl) rfl
theorem q27 : (Jvm.Cond.fieldLink "MeanGroups" (47 : Nat) "MeanGroups" "k" "I") ∈ lw_all := lw_g (lw_at lw_m0 18 rfl) rfl
theorem q28 : (Jvm.Cond.fieldLink "MeanGroups" (16 : Nat) "MeanGroups" "seedX" "[I") ∈ lw_all := lw_g (lw_at lw_m0 19 rfl) rfl
theorem q29 : (Jvm.Cond.fieldLink "MeanGroups" (19 : Nat) "MeanGroups" "seedY" "[I") ∈ lw_all := lw_g (lw_at lw_m0 20 rfl) rfl
theorem q30 : (Jvm.Cond.fieldLink "MeanGroups" (22 : Nat) "MeanGroups" "midX" "[I") ∈ lw_all := lw_g (lw_at lw_m0 21 rfl) rfl
theorem q31 : (Jvm.Cond.fieldLink "MeanGroups" (25 : Nat) "MeanGroups" "midY" "[I") ∈ lw_all := lw_g (lw_at lw_m0 22 rfl) rfl
theorem q32 : (Jvm.Cond.fieldLink "MeanGroups" (28 : Nat) "MeanGroups" "midCount" "[I") ∈ lw_all := lw_g (lw_at lw_m0 23 rfl) rfl
theorem q33 : (Jvm.Cond.fieldLink "MeanGroups" (31 : Nat) "MeanGroups" "moved" "[Z") ∈ lw_all := lw_g (lw_at lw_m0 24 rfl) rfl
theorem q34 : (Jvm.Cond.fieldLink "MeanGroups" (35 : Nat) "MeanGroups" "member" "[I") ∈ lw_all := lw_g (lw_at lw_m0 25 rfl) rfl
theorem q35 : (Jvm.Cond.fieldLink "MeanGroups" (38 : Nat) "MeanGroups" "sumX" "[I") ∈ lw_all := lw_g (lw_at lw_m0 26 rfl) rfl
theorem q36 : (Jvm.Cond.fieldLink "MeanGroups" (41 : Nat) "MeanGroups" "sumY" "[I") ∈ lw_all := lw_g (lw_at lw_m0 27 rfl) rfl
theorem q37 : (Jvm.Cond.fieldLink "MeanGroups" (44 : Nat) "MeanGroups" "count" "[I") ∈ lw_all := lw_g (lw_at lw_m0 28 rfl) rfl
theorem q38 : (Jvm.Cond.fieldLink "MeanGroups" (76 : Nat) "MeanGroups" "upper" "J") ∈ lw_all := lw_g (lw_at lw_m0 29 rfl) rfl
theorem q39 : (Jvm.Cond.fieldLink "MeanGroups" (80 : Nat) "MeanGroups" "lower" "J") ∈ lw_all := lw_g (lw_at lw_m0 30 rfl) rfl
theorem q40 : (Jvm.Cond.lays "MeanGroups" "MeanGroups" "points" "I") ∈ lw_all := lw_g (lw_at lw_m0 31 rfl) rfl
theorem q41 : (Jvm.Cond.soleField "MeanGroups" "points") ∈ lw_all := lw_g (lw_at lw_m0 32 rfl) rfl
theorem q42 : (Jvm.Cond.laysFinal "MeanGroups" "MeanGroups" "x" "[I") ∈ lw_all := lw_g (lw_at lw_m0 33 rfl) rfl
theorem q43 : (Jvm.Cond.soleField "MeanGroups" "x") ∈ lw_all := lw_g (lw_at lw_m0 34 rfl) rfl
theorem q44 : (Jvm.Cond.laysFinal "MeanGroups" "MeanGroups" "y" "[I") ∈ lw_all := lw_g (lw_at lw_m0 35 rfl) rfl
theorem q45 : (Jvm.Cond.soleField "MeanGroups" "y") ∈ lw_all := lw_g (lw_at lw_m0 36 rfl) rfl
theorem q46 : (Jvm.Cond.lays "MeanGroups" "MeanGroups" "k" "I") ∈ lw_all := lw_g (lw_at lw_m0 37 rfl) rfl
theorem q47 : (Jvm.Cond.soleField "MeanGroups" "k") ∈ lw_all := lw_g (lw_at lw_m0 38 rfl) rfl
theorem q48 : (Jvm.Cond.laysFinal "MeanGroups" "MeanGroups" "seedX" "[I") ∈ lw_all := lw_g (lw_at lw_m0 39 rfl) rfl
theorem q49 : (Jvm.Cond.soleField "MeanGroups" "seedX") ∈ lw_all := lw_g (lw_at lw_m0 40 rfl) rfl
theorem q50 : (Jvm.Cond.laysFinal "MeanGroups" "MeanGroups" "seedY" "[I") ∈ lw_all := lw_g (lw_at lw_m0 41 rfl) rfl
theorem q51 : (Jvm.Cond.soleField "MeanGroups" "seedY") ∈ lw_all := lw_g (lw_at lw_m0 42 rfl) rfl
theorem q52 : (Jvm.Cond.laysFinal "MeanGroups" "MeanGroups" "midX" "[I") ∈ lw_all := lw_g (lw_at lw_m0 43 rfl) rfl
theorem q53 : (Jvm.Cond.soleField "MeanGroups" "midX") ∈ lw_all := lw_g (lw_at lw_m0 44 rfl) rfl
theorem q54 : (Jvm.Cond.laysFinal "MeanGroups" "MeanGroups" "midY" "[I") ∈ lw_all := lw_g (lw_at lw_m0 45 rfl) rfl
theorem q55 : (Jvm.Cond.soleField "MeanGroups" "midY") ∈ lw_all := lw_g (lw_at lw_m0 46 rfl) rfl
theorem q56 : (Jvm.Cond.laysFinal "MeanGroups" "MeanGroups" "midCount" "[I") ∈ lw_all := lw_g (lw_at lw_m0 47 rfl) rfl
theorem q57 : (Jvm.Cond.soleField "MeanGroups" "midCount") ∈ lw_all := lw_g (lw_at lw_m0 48 rfl) rfl
theorem q58 : (Jvm.Cond.laysFinal "MeanGroups" "MeanGroups" "moved" "[Z") ∈ lw_all := lw_g (lw_at lw_m0 49 rfl) rfl
theorem q59 : (Jvm.Cond.soleField "MeanGroups" "moved") ∈ lw_all := lw_g (lw_at lw_m0 50 rfl) rfl
theorem q60 : (Jvm.Cond.laysFinal "MeanGroups" "MeanGroups" "member" "[I") ∈ lw_all := lw_g (lw_at lw_m0 51 rfl) rfl
theorem q61 : (Jvm.Cond.soleField "MeanGroups" "member") ∈ lw_all := lw_g (lw_at lw_m0 52 rfl) rfl
theorem q62 : (Jvm.Cond.laysFinal "MeanGroups" "MeanGroups" "sumX" "[I") ∈ lw_all := lw_g (lw_at lw_m0 53 rfl) rfl
theorem q63 : (Jvm.Cond.soleField "MeanGroups" "sumX") ∈ lw_all := lw_g (lw_at lw_m0 54 rfl) rfl
theorem q64 : (Jvm.Cond.laysFinal "MeanGroups" "MeanGroups" "sumY" "[I") ∈ lw_all := lw_g (lw_at lw_m0 55 rfl) rfl
theorem q65 : (Jvm.Cond.soleField "MeanGroups" "sumY") ∈ lw_all := lw_g (lw_at lw_m0 56 rfl) rfl
theorem q66 : (Jvm.Cond.laysFinal "MeanGroups" "MeanGroups" "count" "[I") ∈ lw_all := lw_g (lw_at lw_m0 57 rfl) rfl
theorem q67 : (Jvm.Cond.soleField "MeanGroups" "count") ∈ lw_all := lw_g (lw_at lw_m0 58 rfl) rfl
theorem q68 : (Jvm.Cond.lays "MeanGroups" "MeanGroups" "upper" "J") ∈ lw_all := lw_g (lw_at lw_m0 59 rfl) rfl
theorem q69 : (Jvm.Cond.soleField "MeanGroups" "upper") ∈ lw_all := lw_g (lw_at lw_m0 60 rfl) rfl
theorem q70 : (Jvm.Cond.lays "MeanGroups" "MeanGroups" "lower" "J") ∈ lw_all := lw_g (lw_at lw_m0 61 rfl) rfl
theorem q71 : (Jvm.Cond.soleField "MeanGroups" "lower") ∈ lw_all := lw_g (lw_at lw_m0 62 rfl) rfl
theorem q72 : (Jvm.Cond.superclass "MeanGroups" "java/lang/Object") ∈ lw_all := lw_g (lw_at lw_m0 63 rfl) rfl
theorem q76 : (Jvm.Cond.instanceMethod ({ cls := "MeanGroups", name := "add", desc := "(II)I" } : Jvm.MethodName)) ∈ lw_all := lw_g (lw_at lw_m0 67 rfl) rfl
theorem q77 : (Jvm.Cond.selects "MeanGroups" ({ cls := "MeanGroups", name := "add", desc := "(II)I" } : Jvm.MethodName) ({ cls := "MeanGroups", name := "add", desc := "(II)I" } : Jvm.MethodName)) ∈ lw_all := lw_g (lw_at lw_m0 68 rfl) rfl
theorem q78 : (Jvm.Cond.code ({ cls := "MeanGroups", name := "add", desc := "(II)I" } : Jvm.MethodName) prog_1_method_2_code (3 : Nat) (Option.some Jvm.ClassFile.FieldType.int)) ∈ lw_all := lw_g (lw_at lw_m0 69 rfl) rfl
theorem q79 : (Jvm.Cond.methodLink "MeanGroups" (54 : Nat) ({ cls := "MeanGroups", name := "inRange", desc := "(I)Z" } : Jvm.MethodName)) ∈ lw_all := lw_g (lw_at lw_m0 70 rfl) rfl
theorem q80 : (Jvm.Cond.static ({ cls := "MeanGroups", name := "inRange", desc := "(I)Z" } : Jvm.MethodName)) ∈ lw_all := lw_g (lw_at lw_m0 71 rfl) rfl
theorem q81 : (Jvm.Cond.code ({ cls := "MeanGroups", name := "inRange", desc := "(I)Z" } : Jvm.MethodName) prog_1_method_13_code (1 : Nat) (Option.some Jvm.ClassFile.FieldType.boolean)) ∈ lw_all := lw_g (lw_at lw_m0 72 rfl) rfl
theorem q83 : (Jvm.Cond.instanceMethod ({ cls := "MeanGroups", name := "drop", desc := "(I)I" } : Jvm.MethodName)) ∈ lw_all := lw_g (lw_at lw_m0 74 rfl) rfl
theorem q84 : (Jvm.Cond.selects "MeanGroups" ({ cls := "MeanGroups", name := "drop", desc := "(I)I" } : Jvm.MethodName) ({ cls := "MeanGroups", name := "drop", desc := "(I)I" } : Jvm.MethodName)) ∈ lw_all := lw_g (lw_at lw_m0 75 rfl) rfl
theorem q85 : (Jvm.Cond.code ({ cls := "MeanGroups", name := "drop", desc := "(I)I" } : Jvm.MethodName) prog_1_method_3_code (3 : Nat) (Option.some Jvm.ClassFile.FieldType.int)) ∈ lw_all := lw_g (lw_at lw_m0 76 rfl) rfl
theorem q87 : (Jvm.Cond.instanceMethod ({ cls := "MeanGroups", name := "seed", desc := "(III)I" } : Jvm.MethodName)) ∈ lw_all := lw_g (lw_at lw_m0 78 rfl) rfl
theorem q88 : (Jvm.Cond.selects "MeanGroups" ({ cls := "MeanGroups", name := "seed", desc := "(III)I" } : Jvm.MethodName) ({ cls := "MeanGroups", name := "seed", desc := "(III)I" } : Jvm.MethodName)) ∈ lw_all := lw_g (lw_at lw_m0 79 rfl) rfl
theorem q89 : (Jvm.Cond.code ({ cls := "MeanGroups", name := "seed", desc := "(III)I" } : Jvm.MethodName) prog_1_method_4_code (4 : Nat) (Option.some Jvm.ClassFile.FieldType.int)) ∈ lw_all := lw_g (lw_at lw_m0 80 rfl) rfl
theorem q91 : (Jvm.Cond.instanceMethod ({ cls := "MeanGroups", name := "groups", desc := "(I)V" } : Jvm.MethodName)) ∈ lw_all := lw_g (lw_at lw_m0 82 rfl) rfl
theorem q92 : (Jvm.Cond.selects "MeanGroups" ({ cls := "MeanGroups", name := "groups", desc := "(I)V" } : Jvm.MethodName) ({ cls := "MeanGroups", name := "groups", desc := "(I)V" } : Jvm.MethodName)) ∈ lw_all := lw_g (lw_at lw_m0 83 rfl) rfl
theorem q93 : (Jvm.Cond.code ({ cls := "MeanGroups", name := "groups", desc := "(I)V" } : Jvm.MethodName) prog_1_method_5_code (2 : Nat) (Option.none : Option Jvm.ClassFile.FieldType)) ∈ lw_all := lw_g (lw_at lw_m0 84 rfl) rfl
theorem q96 : (Jvm.Cond.instanceMethod ({ cls := "MeanGroups", name := "round", desc := "()I" } : Jvm.MethodName)) ∈ lw_all := lw_g (lw_at lw_m0 87 rfl) rfl
theorem q97 : (Jvm.Cond.selects "MeanGroups" ({ cls := "MeanGroups", name := "round", desc := "()I" } : Jvm.MethodName) ({ cls := "MeanGroups", name := "round", desc := "()I" } : Jvm.MethodName)) ∈ lw_all := lw_g (lw_at lw_m0 88 rfl) rfl
theorem q98 : (Jvm.Cond.code ({ cls := "MeanGroups", name := "round", desc := "()I" } : Jvm.MethodName) prog_1_method_7_code (4 : Nat) (Option.some Jvm.ClassFile.FieldType.int)) ∈ lw_all := lw_g (lw_at lw_m0 89 rfl) rfl
theorem q99 : (Jvm.Cond.methodLink "MeanGroups" (61 : Nat) ({ cls := "MeanGroups", name := "nearestGroup", desc := "(I)I" } : Jvm.MethodName)) ∈ lw_all := lw_g (lw_at lw_m0 90 rfl) rfl
theorem q100 : (Jvm.Cond.privateMethod ({ cls := "MeanGroups", name := "nearestGroup", desc := "(I)I" } : Jvm.MethodName)) ∈ lw_tbl := lw_at lw_m0 91 rfl
theorem q101 : (Jvm.Cond.instanceMethod ({ cls := "MeanGroups", name := "nearestGroup", desc := "(I)I" } : Jvm.MethodName)) ∈ lw_all := lw_g (lw_at lw_m0 92 rfl) rfl
theorem q102 : (Jvm.Cond.code ({ cls := "MeanGroups", name := "nearestGroup", desc := "(I)I" } : Jvm.MethodName) prog_1_method_17_code (15 : Nat) (Option.some Jvm.ClassFile.FieldType.int)) ∈ lw_all := lw_g (lw_at lw_m0 93 rfl) rfl
theorem q103 : (Jvm.Cond.methodLink "MeanGroups" (83 : Nat) ({ cls := "MeanGroups", name := "measure", desc := "(II)V" } : Jvm.MethodName)) ∈ lw_all := lw_g (lw_at lw_m0 94 rfl) rfl
theorem q104 : (Jvm.Cond.privateMethod ({ cls := "MeanGroups", name := "measure", desc := "(II)V" } : Jvm.MethodName)) ∈ lw_tbl := lw_at lw_m0 95 rfl
theorem q105 : (Jvm.Cond.instanceMethod ({ cls := "MeanGroups", name := "measure", desc := "(II)V" } : Jvm.MethodName)) ∈ lw_all := lw_g (lw_at lw_m0 96 rfl) rfl
theorem q106 : (Jvm.Cond.code ({ cls := "MeanGroups", name := "measure", desc := "(II)V" } : Jvm.MethodName) prog_1_method_14_code (7 : Nat) (Option.none : Option Jvm.ClassFile.FieldType)) ∈ lw_all := lw_g (lw_at lw_m0 97 rfl) rfl
theorem q107 : (Jvm.Cond.methodLink "MeanGroups" (87 : Nat) ({ cls := "MeanGroups", name := "farBeyond", desc := "(IIJJ)Z" } : Jvm.MethodName)) ∈ lw_all := lw_g (lw_at lw_m0 98 rfl) rfl
theorem q108 : (Jvm.Cond.privateMethod ({ cls := "MeanGroups", name := "farBeyond", desc := "(IIJJ)Z" } : Jvm.MethodName)) ∈ lw_tbl := lw_at lw_m0 99 rfl
theorem q109 : (Jvm.Cond.instanceMethod ({ cls := "MeanGroups", name := "farBeyond", desc := "(IIJJ)Z" } : Jvm.MethodName)) ∈ lw_all := lw_g (lw_at lw_m0 100 rfl) rfl
theorem q110 : (Jvm.Cond.code ({ cls := "MeanGroups", name := "farBeyond", desc := "(IIJJ)Z" } : Jvm.MethodName) prog_1_method_18_code (7 : Nat) (Option.some Jvm.ClassFile.FieldType.boolean)) ∈ lw_all := lw_g (lw_at lw_m0 101 rfl) rfl
theorem q111 : (Jvm.Cond.methodLink "MeanGroups" (91 : Nat) ({ cls := "MeanGroups", name := "measureMiddles", desc := "(II)V" } : Jvm.MethodName)) ∈ lw_all := lw_g (lw_at lw_m0 102 rfl) rfl
theorem q112 : (Jvm.Cond.privateMethod ({ cls := "MeanGroups", name := "measureMiddles", desc := "(II)V" } : Jvm.MethodName)) ∈ lw_tbl := lw_at lw_m0 103 rfl
theorem q113 : (Jvm.Cond.instanceMethod ({ cls := "MeanGroups", name := "measureMiddles", desc := "(II)V" } : Jvm.MethodName)) ∈ lw_all := lw_g (lw_at lw_m0 104 rfl) rfl
theorem q114 : (Jvm.Cond.code ({ cls := "MeanGroups", name := "measureMiddles", desc := "(II)V" } : Jvm.MethodName) prog_1_method_15_code (9 : Nat) (Option.none : Option Jvm.ClassFile.FieldType)) ∈ lw_all := lw_g (lw_at lw_m0 105 rfl) rfl
theorem q115 : (Jvm.Cond.constantLong "MeanGroups" (94 : Nat) (4 : Int64)) ∈ lw_all := lw_g (lw_at lw_m0 106 rfl) rfl
theorem q116 : (Jvm.Cond.methodLink "MeanGroups" (65 : Nat) ({ cls := "MeanGroups", name := "moveMiddles", desc := "()V" } : Jvm.MethodName)) ∈ lw_all := lw_g (lw_at lw_m0 107 rfl) rfl
theorem q117 : (Jvm.Cond.privateMethod ({ cls := "MeanGroups", name := "moveMiddles", desc := "()V" } : Jvm.MethodName)) ∈ lw_tbl := lw_at lw_m0 108 rfl
theorem q118 : (Jvm.Cond.instanceMethod ({ cls := "MeanGroups", name := "moveMiddles", desc := "()V" } : Jvm.MethodName)) ∈ lw_all := lw_g (lw_at lw_m0 109 rfl) rfl
theorem q119 : (Jvm.Cond.code ({ cls := "MeanGroups", name := "moveMiddles", desc := "()V" } : Jvm.MethodName) prog_1_method_19_code (4 : Nat) (Option.none : Option Jvm.ClassFile.FieldType)) ∈ lw_all := lw_g (lw_at lw_m0 110 rfl) rfl
theorem q121 : (Jvm.Cond.instanceMethod ({ cls := "MeanGroups", name := "settle", desc := "()I" } : Jvm.MethodName)) ∈ lw_all := lw_g (lw_at lw_m0 112 rfl) rfl
theorem q122 : (Jvm.Cond.selects "MeanGroups" ({ cls := "MeanGroups", name := "settle", desc := "()I" } : Jvm.MethodName) ({ cls := "MeanGroups", name := "settle", desc := "()I" } : Jvm.MethodName)) ∈ lw_all := lw_g (lw_at lw_m0 113 rfl) rfl
theorem q123 : (Jvm.Cond.code ({ cls := "MeanGroups", name := "settle", desc := "()I" } : Jvm.MethodName) prog_1_method_8_code (3 : Nat) (Option.some Jvm.ClassFile.FieldType.int)) ∈ lw_all := lw_g (lw_at lw_m0 114 rfl) rfl
theorem q124 : (Jvm.Cond.methodLink "MeanGroups" (68 : Nat) ({ cls := "MeanGroups", name := "round", desc := "()I" } : Jvm.MethodName)) ∈ lw_all := lw_g (lw_at lw_m0 115 rfl) rfl
theorem q126 : (Jvm.Cond.instanceMethod ({ cls := "MeanGroups", name := "group", desc := "(I)I" } : Jvm.MethodName)) ∈ lw_all := lw_g (lw_at lw_m0 117 rfl) rfl
theorem q127 : (Jvm.Cond.selects "MeanGroups" ({ cls := "MeanGroups", name := "group", desc := "(I)I" } : Jvm.MethodName) ({ cls := "MeanGroups", name := "group", desc := "(I)I" } : Jvm.MethodName)) ∈ lw_all := lw_g (lw_at lw_m0 118 rfl) rfl
theorem q128 : (Jvm.Cond.code ({ cls := "MeanGroups", name := "group", desc := "(I)I" } : Jvm.MethodName) prog_1_method_9_code (2 : Nat) (Option.some Jvm.ClassFile.FieldType.int)) ∈ lw_all := lw_g (lw_at lw_m0 119 rfl) rfl
theorem q130 : (Jvm.Cond.instanceMethod ({ cls := "MeanGroups", name := "size", desc := "(I)I" } : Jvm.MethodName)) ∈ lw_all := lw_g (lw_at lw_m0 121 rfl) rfl
theorem q131 : (Jvm.Cond.selects "MeanGroups" ({ cls := "MeanGroups", name := "size", desc := "(I)I" } : Jvm.MethodName) ({ cls := "MeanGroups", name := "size", desc := "(I)I" } : Jvm.MethodName)) ∈ lw_all := lw_g (lw_at lw_m0 122 rfl) rfl
theorem q132 : (Jvm.Cond.code ({ cls := "MeanGroups", name := "size", desc := "(I)I" } : Jvm.MethodName) prog_1_method_10_code (4 : Nat) (Option.some Jvm.ClassFile.FieldType.int)) ∈ lw_all := lw_g (lw_at lw_m0 123 rfl) rfl
theorem q134 : (Jvm.Cond.instanceMethod ({ cls := "MeanGroups", name := "sum", desc := "(II)I" } : Jvm.MethodName)) ∈ lw_all := lw_g (lw_at lw_m0 125 rfl) rfl
theorem q135 : (Jvm.Cond.selects "MeanGroups" ({ cls := "MeanGroups", name := "sum", desc := "(II)I" } : Jvm.MethodName) ({ cls := "MeanGroups", name := "sum", desc := "(II)I" } : Jvm.MethodName)) ∈ lw_all := lw_g (lw_at lw_m0 126 rfl) rfl
theorem q136 : (Jvm.Cond.code ({ cls := "MeanGroups", name := "sum", desc := "(II)I" } : Jvm.MethodName) prog_1_method_11_code (5 : Nat) (Option.some Jvm.ClassFile.FieldType.int)) ∈ lw_all := lw_g (lw_at lw_m0 127 rfl) rfl
theorem q138 : (Jvm.Cond.instanceMethod ({ cls := "MeanGroups", name := "near", desc := "(I)I" } : Jvm.MethodName)) ∈ lw_all := lw_g (lw_at lw_m0 129 rfl) rfl
theorem q139 : (Jvm.Cond.selects "MeanGroups" ({ cls := "MeanGroups", name := "near", desc := "(I)I" } : Jvm.MethodName) ({ cls := "MeanGroups", name := "near", desc := "(I)I" } : Jvm.MethodName)) ∈ lw_all := lw_g (lw_at lw_m0 130 rfl) rfl
theorem q140 : (Jvm.Cond.code ({ cls := "MeanGroups", name := "near", desc := "(I)I" } : Jvm.MethodName) prog_1_method_12_code (4 : Nat) (Option.some Jvm.ClassFile.FieldType.int)) ∈ lw_all := lw_g (lw_at lw_m0 131 rfl) rfl
theorem q141 : (Jvm.Cond.methodLink "MeanGroups" (72 : Nat) ({ cls := "MeanGroups", name := "isNearest", desc := "(II)Z" } : Jvm.MethodName)) ∈ lw_all := lw_g (lw_at lw_m0 132 rfl) rfl
theorem q142 : (Jvm.Cond.privateMethod ({ cls := "MeanGroups", name := "isNearest", desc := "(II)Z" } : Jvm.MethodName)) ∈ lw_tbl := lw_at lw_m0 133 rfl
theorem q143 : (Jvm.Cond.instanceMethod ({ cls := "MeanGroups", name := "isNearest", desc := "(II)Z" } : Jvm.MethodName)) ∈ lw_all := lw_g (lw_at lw_m0 134 rfl) rfl
theorem q144 : (Jvm.Cond.code ({ cls := "MeanGroups", name := "isNearest", desc := "(II)Z" } : Jvm.MethodName) prog_1_method_16_code (8 : Nat) (Option.some Jvm.ClassFile.FieldType.boolean)) ∈ lw_all := lw_g (lw_at lw_m0 135 rfl) rfl
theorem in_X0 : ∀ w ∈ wsX00, w ∈ lw_all := lw_in wsX00 [40, 42, 44, 46, 48, 50, 52, 54, 56, 58, 60, 62, 64, 66, 68, 70] (by decide +kernel) (by decide +kernel)

theorem dX0_init_0 : decode cX0_init 0 = .ok (.aload_n 0, 1) := by decide +kernel
theorem dX0_init_1 : decode cX0_init 1 = .ok (.invokespecial 1, 3) := by decide +kernel
theorem dX0_init_4 : decode cX0_init 4 = .ok (.aload_n 0, 1) := by decide +kernel
theorem dX0_init_5 : decode cX0_init 5 = .ok (.bipush 24, 2) := by decide +kernel
theorem dX0_init_7 : decode cX0_init 7 = .ok (.newarray .int, 2) := by decide +kernel
theorem dX0_init_9 : decode cX0_init 9 = .ok (.putfield 7, 3) := by decide +kernel
theorem dX0_init_12 : decode cX0_init 12 = .ok (.aload_n 0, 1) := by decide +kernel
theorem dX0_init_13 : decode cX0_init 13 = .ok (.bipush 24, 2) := by decide +kernel
theorem dX0_init_15 : decode cX0_init 15 = .ok (.newarray .int, 2) := by decide +kernel
theorem dX0_init_17 : decode cX0_init 17 = .ok (.putfield 13, 3) := by decide +kernel
theorem dX0_init_20 : decode cX0_init 20 = .ok (.aload_n 0, 1) := by decide +kernel
theorem dX0_init_21 : decode cX0_init 21 = .ok (.iconst 4, 1) := by decide +kernel
theorem dX0_init_22 : decode cX0_init 22 = .ok (.newarray .int, 2) := by decide +kernel
theorem dX0_init_24 : decode cX0_init 24 = .ok (.putfield 16, 3) := by decide +kernel
theorem dX0_init_27 : decode cX0_init 27 = .ok (.aload_n 0, 1) := by decide +kernel
theorem dX0_init_28 : decode cX0_init 28 = .ok (.iconst 4, 1) := by decide +kernel
theorem dX0_init_29 : decode cX0_init 29 = .ok (.newarray .int, 2) := by decide +kernel
theorem dX0_init_31 : decode cX0_init 31 = .ok (.putfield 19, 3) := by decide +kernel
theorem dX0_init_34 : decode cX0_init 34 = .ok (.aload_n 0, 1) := by decide +kernel
theorem dX0_init_35 : decode cX0_init 35 = .ok (.iconst 4, 1) := by decide +kernel
theorem dX0_init_36 : decode cX0_init 36 = .ok (.newarray .int, 2) := by decide +kernel
theorem dX0_init_38 : decode cX0_init 38 = .ok (.putfield 22, 3) := by decide +kernel
theorem dX0_init_41 : decode cX0_init 41 = .ok (.aload_n 0, 1) := by decide +kernel
theorem dX0_init_42 : decode cX0_init 42 = .ok (.iconst 4, 1) := by decide +kernel
theorem dX0_init_43 : decode cX0_init 43 = .ok (.newarray .int, 2) := by decide +kernel
theorem dX0_init_45 : decode cX0_init 45 = .ok (.putfield 25, 3) := by decide +kernel
theorem dX0_init_48 : decode cX0_init 48 = .ok (.aload_n 0, 1) := by decide +kernel
theorem dX0_init_49 : decode cX0_init 49 = .ok (.iconst 4, 1) := by decide +kernel
theorem dX0_init_50 : decode cX0_init 50 = .ok (.newarray .int, 2) := by decide +kernel
theorem dX0_init_52 : decode cX0_init 52 = .ok (.putfield 28, 3) := by decide +kernel
theorem dX0_init_55 : decode cX0_init 55 = .ok (.aload_n 0, 1) := by decide +kernel
theorem dX0_init_56 : decode cX0_init 56 = .ok (.iconst 4, 1) := by decide +kernel
theorem dX0_init_57 : decode cX0_init 57 = .ok (.newarray .boolean, 2) := by decide +kernel
theorem dX0_init_59 : decode cX0_init 59 = .ok (.putfield 31, 3) := by decide +kernel
theorem dX0_init_62 : decode cX0_init 62 = .ok (.aload_n 0, 1) := by decide +kernel
theorem dX0_init_63 : decode cX0_init 63 = .ok (.bipush 24, 2) := by decide +kernel
theorem dX0_init_65 : decode cX0_init 65 = .ok (.newarray .int, 2) := by decide +kernel
theorem dX0_init_67 : decode cX0_init 67 = .ok (.putfield 35, 3) := by decide +kernel
theorem dX0_init_70 : decode cX0_init 70 = .ok (.aload_n 0, 1) := by decide +kernel
theorem dX0_init_71 : decode cX0_init 71 = .ok (.iconst 4, 1) := by decide +kernel
theorem dX0_init_72 : decode cX0_init 72 = .ok (.newarray .int, 2) := by decide +kernel
theorem dX0_init_74 : decode cX0_init 74 = .ok (.putfield 38, 3) := by decide +kernel
theorem dX0_init_77 : decode cX0_init 77 = .ok (.aload_n 0, 1) := by decide +kernel
theorem dX0_init_78 : decode cX0_init 78 = .ok (.iconst 4, 1) := by decide +kernel
theorem dX0_init_79 : decode cX0_init 79 = .ok (.newarray .int, 2) := by decide +kernel
theorem dX0_init_81 : decode cX0_init 81 = .ok (.putfield 41, 3) := by decide +kernel
theorem dX0_init_84 : decode cX0_init 84 = .ok (.aload_n 0, 1) := by decide +kernel
theorem dX0_init_85 : decode cX0_init 85 = .ok (.iconst 4, 1) := by decide +kernel
theorem dX0_init_86 : decode cX0_init 86 = .ok (.newarray .int, 2) := by decide +kernel
theorem dX0_init_88 : decode cX0_init 88 = .ok (.putfield 44, 3) := by decide +kernel
theorem dX0_init_91 : decode cX0_init 91 = .ok (.aload_n 0, 1) := by decide +kernel
theorem dX0_init_92 : decode cX0_init 92 = .ok (.iconst 2, 1) := by decide +kernel
theorem dX0_init_93 : decode cX0_init 93 = .ok (.putfield 47, 3) := by decide +kernel
theorem dX0_init_96 : decode cX0_init 96 = .ok (.aload_n 0, 1) := by decide +kernel
theorem dX0_init_97 : decode cX0_init 97 = .ok (.invokevirtual 51, 3) := by decide +kernel
theorem dX0_init_100 : decode cX0_init 100 = .ok (.return_, 1) := by decide +kernel
theorem dX0_reset_0 : decode cX0_reset 0 = .ok (.iconst 0, 1) := by decide +kernel
theorem dX0_reset_1 : decode cX0_reset 1 = .ok (.istore_n 1, 1) := by decide +kernel
theorem dX0_reset_2 : decode cX0_reset 2 = .ok (.iload_n 1, 1) := by decide +kernel
theorem dX0_reset_3 : decode cX0_reset 3 = .ok (.iconst 4, 1) := by decide +kernel
theorem dX0_reset_4 : decode cX0_reset 4 = .ok (.if_icmp .ge 47, 3) := by decide +kernel
theorem dX0_reset_7 : decode cX0_reset 7 = .ok (.aload_n 0, 1) := by decide +kernel
theorem dX0_reset_8 : decode cX0_reset 8 = .ok (.getfield 22, 3) := by decide +kernel
theorem dX0_reset_11 : decode cX0_reset 11 = .ok (.iload_n 1, 1) := by decide +kernel
theorem dX0_reset_12 : decode cX0_reset 12 = .ok (.aload_n 0, 1) := by decide +kernel
theorem dX0_reset_13 : decode cX0_reset 13 = .ok (.getfield 16, 3) := by decide +kernel
theorem dX0_reset_16 : decode cX0_reset 16 = .ok (.iload_n 1, 1) := by decide +kernel
theorem dX0_reset_17 : decode cX0_reset 17 = .ok (.iaload, 1) := by decide +kernel
theorem dX0_reset_18 : decode cX0_reset 18 = .ok (.iastore, 1) := by decide +kernel
theorem dX0_reset_19 : decode cX0_reset 19 = .ok (.aload_n 0, 1) := by decide +kernel
theorem dX0_reset_20 : decode cX0_reset 20 = .ok (.getfield 25, 3) := by decide +kernel
theorem dX0_reset_23 : decode cX0_reset 23 = .ok (.iload_n 1, 1) := by decide +kernel
theorem dX0_reset_24 : decode cX0_reset 24 = .ok (.aload_n 0, 1) := by decide +kernel
theorem dX0_reset_25 : decode cX0_reset 25 = .ok (.getfield 19, 3) := by decide +kernel
theorem dX0_reset_28 : decode cX0_reset 28 = .ok (.iload_n 1, 1) := by decide +kernel
theorem dX0_reset_29 : decode cX0_reset 29 = .ok (.iaload, 1) := by decide +kernel
theorem dX0_reset_30 : decode cX0_reset 30 = .ok (.iastore, 1) := by decide +kernel
theorem dX0_reset_31 : decode cX0_reset 31 = .ok (.aload_n 0, 1) := by decide +kernel
theorem dX0_reset_32 : decode cX0_reset 32 = .ok (.getfield 28, 3) := by decide +kernel
theorem dX0_reset_35 : decode cX0_reset 35 = .ok (.iload_n 1, 1) := by decide +kernel
theorem dX0_reset_36 : decode cX0_reset 36 = .ok (.iconst 1, 1) := by decide +kernel
theorem dX0_reset_37 : decode cX0_reset 37 = .ok (.iastore, 1) := by decide +kernel
theorem dX0_reset_38 : decode cX0_reset 38 = .ok (.aload_n 0, 1) := by decide +kernel
theorem dX0_reset_39 : decode cX0_reset 39 = .ok (.getfield 31, 3) := by decide +kernel
theorem dX0_reset_42 : decode cX0_reset 42 = .ok (.iload_n 1, 1) := by decide +kernel
theorem dX0_reset_43 : decode cX0_reset 43 = .ok (.iconst 1, 1) := by decide +kernel
theorem dX0_reset_44 : decode cX0_reset 44 = .ok (.bastore, 1) := by decide +kernel
theorem dX0_reset_45 : decode cX0_reset 45 = .ok (.iinc 1 1, 3) := by decide +kernel
theorem dX0_reset_48 : decode cX0_reset 48 = .ok (.goto (-46), 3) := by decide +kernel
theorem dX0_reset_51 : decode cX0_reset 51 = .ok (.iconst 0, 1) := by decide +kernel
theorem dX0_reset_52 : decode cX0_reset 52 = .ok (.istore_n 1, 1) := by decide +kernel
theorem dX0_reset_53 : decode cX0_reset 53 = .ok (.iload_n 1, 1) := by decide +kernel
theorem dX0_reset_54 : decode cX0_reset 54 = .ok (.bipush 24, 2) := by decide +kernel
theorem dX0_reset_56 : decode cX0_reset 56 = .ok (.if_icmp .ge 16, 3) := by decide +kernel
theorem dX0_reset_59 : decode cX0_reset 59 = .ok (.aload_n 0, 1) := by decide +kernel
theorem dX0_reset_60 : decode cX0_reset 60 = .ok (.getfield 35, 3) := by decide +kernel
theorem dX0_reset_63 : decode cX0_reset 63 = .ok (.iload_n 1, 1) := by decide +kernel
theorem dX0_reset_64 : decode cX0_reset 64 = .ok (.iconst (-1), 1) := by decide +kernel
theorem dX0_reset_65 : decode cX0_reset 65 = .ok (.iastore, 1) := by decide +kernel
theorem dX0_reset_66 : decode cX0_reset 66 = .ok (.iinc 1 1, 3) := by decide +kernel
theorem dX0_reset_69 : decode cX0_reset 69 = .ok (.goto (-16), 3) := by decide +kernel
theorem dX0_reset_72 : decode cX0_reset 72 = .ok (.return_, 1) := by decide +kernel
theorem dX0_add_0 : decode cX0_add 0 = .ok (.iload_n 1, 1) := by decide +kernel
theorem dX0_add_1 : decode cX0_add 1 = .ok (.invokestatic 54, 3) := by decide +kernel
theorem dX0_add_4 : decode cX0_add 4 = .ok (.ifCond .eq 19, 3) := by decide +kernel
theorem dX0_add_7 : decode cX0_add 7 = .ok (.iload_n 2, 1) := by decide +kernel
theorem dX0_add_8 : decode cX0_add 8 = .ok (.invokestatic 54, 3) := by decide +kernel
theorem dX0_add_11 : decode cX0_add 11 = .ok (.ifCond .eq 12, 3) := by decide +kernel
theorem dX0_add_14 : decode cX0_add 14 = .ok (.aload_n 0, 1) := by decide +kernel
theorem dX0_add_15 : decode cX0_add 15 = .ok (.getfield 58, 3) := by decide +kernel
theorem dX0_add_18 : decode cX0_add 18 = .ok (.bipush 24, 2) := by decide +kernel
theorem dX0_add_20 : decode cX0_add 20 = .ok (.if_icmp .lt 5, 3) := by decide +kernel
theorem dX0_add_23 : decode cX0_add 23 = .ok (.iconst (-1), 1) := by decide +kernel
theorem dX0_add_24 : decode cX0_add 24 = .ok (.ireturn, 1) := by decide +kernel
theorem dX0_add_25 : decode cX0_add 25 = .ok (.aload_n 0, 1) := by decide +kernel
theorem dX0_add_26 : decode cX0_add 26 = .ok (.getfield 7, 3) := by decide +kernel
theorem dX0_add_29 : decode cX0_add 29 = .ok (.aload_n 0, 1) := by decide +kernel
theorem dX0_add_30 : decode cX0_add 30 = .ok (.getfield 58, 3) := by decide +kernel
theorem dX0_add_33 : decode cX0_add 33 = .ok (.iload_n 1, 1) := by decide +kernel
theorem dX0_add_34 : decode cX0_add 34 = .ok (.iastore, 1) := by decide +kernel
theorem dX0_add_35 : decode cX0_add 35 = .ok (.aload_n 0, 1) := by decide +kernel
theorem dX0_add_36 : decode cX0_add 36 = .ok (.getfield 13, 3) := by decide +kernel
theorem dX0_add_39 : decode cX0_add 39 = .ok (.aload_n 0, 1) := by decide +kernel
theorem dX0_add_40 : decode cX0_add 40 = .ok (.getfield 58, 3) := by decide +kernel
theorem dX0_add_43 : decode cX0_add 43 = .ok (.iload_n 2, 1) := by decide +kernel
theorem dX0_add_44 : decode cX0_add 44 = .ok (.iastore, 1) := by decide +kernel
theorem dX0_add_45 : decode cX0_add 45 = .ok (.aload_n 0, 1) := by decide +kernel
theorem dX0_add_46 : decode cX0_add 46 = .ok (.dup, 1) := by decide +kernel
theorem dX0_add_47 : decode cX0_add 47 = .ok (.getfield 58, 3) := by decide +kernel
theorem dX0_add_50 : decode cX0_add 50 = .ok (.iconst 1, 1) := by decide +kernel
theorem dX0_add_51 : decode cX0_add 51 = .ok (.iadd, 1) := by decide +kernel
theorem dX0_add_52 : decode cX0_add 52 = .ok (.putfield 58, 3) := by decide +kernel
theorem dX0_add_55 : decode cX0_add 55 = .ok (.aload_n 0, 1) := by decide +kernel
theorem dX0_add_56 : decode cX0_add 56 = .ok (.invokevirtual 51, 3) := by decide +kernel
theorem dX0_add_59 : decode cX0_add 59 = .ok (.aload_n 0, 1) := by decide +kernel
theorem dX0_add_60 : decode cX0_add 60 = .ok (.getfield 58, 3) := by decide +kernel
theorem dX0_add_63 : decode cX0_add 63 = .ok (.ireturn, 1) := by decide +kernel
theorem dX0_inRange_0 : decode cX0_inRange 0 = .ok (.iload_n 0, 1) := by decide +kernel
theorem dX0_inRange_1 : decode cX0_inRange 1 = .ok (.bipush (-50), 2) := by decide +kernel
theorem dX0_inRange_3 : decode cX0_inRange 3 = .ok (.if_icmp .lt 13, 3) := by decide +kernel
theorem dX0_inRange_6 : decode cX0_inRange 6 = .ok (.iload_n 0, 1) := by decide +kernel
theorem dX0_inRange_7 : decode cX0_inRange 7 = .ok (.bipush 50, 2) := by decide +kernel
theorem dX0_inRange_9 : decode cX0_inRange 9 = .ok (.if_icmp .gt 7, 3) := by decide +kernel
theorem dX0_inRange_12 : decode cX0_inRange 12 = .ok (.iconst 1, 1) := by decide +kernel
theorem dX0_inRange_13 : decode cX0_inRange 13 = .ok (.goto 4, 3) := by decide +kernel
theorem dX0_inRange_16 : decode cX0_inRange 16 = .ok (.iconst 0, 1) := by decide +kernel
theorem dX0_inRange_17 : decode cX0_inRange 17 = .ok (.ireturn, 1) := by decide +kernel
theorem dX0_drop_0 : decode cX0_drop 0 = .ok (.iload_n 1, 1) := by decide +kernel
theorem dX0_drop_1 : decode cX0_drop 1 = .ok (.ifCond .lt 11, 3) := by decide +kernel
theorem dX0_drop_4 : decode cX0_drop 4 = .ok (.iload_n 1, 1) := by decide +kernel
theorem dX0_drop_5 : decode cX0_drop 5 = .ok (.aload_n 0, 1) := by decide +kernel
theorem dX0_drop_6 : decode cX0_drop 6 = .ok (.getfield 58, 3) := by decide +kernel
theorem dX0_drop_9 : decode cX0_drop 9 = .ok (.if_icmp .lt 5, 3) := by decide +kernel
theorem dX0_drop_12 : decode cX0_drop 12 = .ok (.iconst (-1), 1) := by decide +kernel
theorem dX0_drop_13 : decode cX0_drop 13 = .ok (.ireturn, 1) := by decide +kernel
theorem dX0_drop_14 : decode cX0_drop 14 = .ok (.aload_n 0, 1) := by decide +kernel
theorem dX0_drop_15 : decode cX0_drop 15 = .ok (.dup, 1) := by decide +kernel
theorem dX0_drop_16 : decode cX0_drop 16 = .ok (.getfield 58, 3) := by decide +kernel
theorem dX0_drop_19 : decode cX0_drop 19 = .ok (.iconst 1, 1) := by decide +kernel
theorem dX0_drop_20 : decode cX0_drop 20 = .ok (.isub, 1) := by decide +kernel
theorem dX0_drop_21 : decode cX0_drop 21 = .ok (.putfield 58, 3) := by decide +kernel
theorem dX0_drop_24 : decode cX0_drop 24 = .ok (.iload_n 1, 1) := by decide +kernel
theorem dX0_drop_25 : decode cX0_drop 25 = .ok (.istore_n 2, 1) := by decide +kernel
theorem dX0_drop_26 : decode cX0_drop 26 = .ok (.iload_n 2, 1) := by decide +kernel
theorem dX0_drop_27 : decode cX0_drop 27 = .ok (.aload_n 0, 1) := by decide +kernel
theorem dX0_drop_28 : decode cX0_drop 28 = .ok (.getfield 58, 3) := by decide +kernel
theorem dX0_drop_31 : decode cX0_drop 31 = .ok (.if_icmp .ge 37, 3) := by decide +kernel
theorem dX0_drop_34 : decode cX0_drop 34 = .ok (.aload_n 0, 1) := by decide +kernel
theorem dX0_drop_35 : decode cX0_drop 35 = .ok (.getfield 7, 3) := by decide +kernel
theorem dX0_drop_38 : decode cX0_drop 38 = .ok (.iload_n 2, 1) := by decide +kernel
theorem dX0_drop_39 : decode cX0_drop 39 = .ok (.aload_n 0, 1) := by decide +kernel
theorem dX0_drop_40 : decode cX0_drop 40 = .ok (.getfield 7, 3) := by decide +kernel
theorem dX0_drop_43 : decode cX0_drop 43 = .ok (.iload_n 2, 1) := by decide +kernel
theorem dX0_drop_44 : decode cX0_drop 44 = .ok (.iconst 1, 1) := by decide +kernel
theorem dX0_drop_45 : decode cX0_drop 45 = .ok (.iadd, 1) := by decide +kernel
theorem dX0_drop_46 : decode cX0_drop 46 = .ok (.iaload, 1) := by decide +kernel
theorem dX0_drop_47 : decode cX0_drop 47 = .ok (.iastore, 1) := by decide +kernel
theorem dX0_drop_48 : decode cX0_drop 48 = .ok (.aload_n 0, 1) := by decide +kernel
theorem dX0_drop_49 : decode cX0_drop 49 = .ok (.getfield 13, 3) := by decide +kernel
theorem dX0_drop_52 : decode cX0_drop 52 = .ok (.iload_n 2, 1) := by decide +kernel
theorem dX0_drop_53 : decode cX0_drop 53 = .ok (.aload_n 0, 1) := by decide +kernel
theorem dX0_drop_54 : decode cX0_drop 54 = .ok (.getfield 13, 3) := by decide +kernel
theorem dX0_drop_57 : decode cX0_drop 57 = .ok (.iload_n 2, 1) := by decide +kernel
theorem dX0_drop_58 : decode cX0_drop 58 = .ok (.iconst 1, 1) := by decide +kernel
theorem dX0_drop_59 : decode cX0_drop 59 = .ok (.iadd, 1) := by decide +kernel
theorem dX0_drop_60 : decode cX0_drop 60 = .ok (.iaload, 1) := by decide +kernel
theorem dX0_drop_61 : decode cX0_drop 61 = .ok (.iastore, 1) := by decide +kernel
theorem dX0_drop_62 : decode cX0_drop 62 = .ok (.iinc 2 1, 3) := by decide +kernel
theorem dX0_drop_65 : decode cX0_drop 65 = .ok (.goto (-39), 3) := by decide +kernel
theorem dX0_drop_68 : decode cX0_drop 68 = .ok (.aload_n 0, 1) := by decide +kernel
theorem dX0_drop_69 : decode cX0_drop 69 = .ok (.invokevirtual 51, 3) := by decide +kernel
theorem dX0_drop_72 : decode cX0_drop 72 = .ok (.aload_n 0, 1) := by decide +kernel
theorem dX0_drop_73 : decode cX0_drop 73 = .ok (.getfield 58, 3) := by decide +kernel
theorem dX0_drop_76 : decode cX0_drop 76 = .ok (.ireturn, 1) := by decide +kernel
theorem dX0_seed_0 : decode cX0_seed 0 = .ok (.iload_n 1, 1) := by decide +kernel
theorem dX0_seed_1 : decode cX0_seed 1 = .ok (.ifCond .lt 22, 3) := by decide +kernel
theorem dX0_seed_4 : decode cX0_seed 4 = .ok (.iload_n 1, 1) := by decide +kernel
theorem dX0_seed_5 : decode cX0_seed 5 = .ok (.iconst 3, 1) := by decide +kernel
theorem dX0_seed_6 : decode cX0_seed 6 = .ok (.if_icmp .gt 17, 3) := by decide +kernel
theorem dX0_seed_9 : decode cX0_seed 9 = .ok (.iload_n 2, 1) := by decide +kernel
theorem dX0_seed_10 : decode cX0_seed 10 = .ok (.invokestatic 54, 3) := by decide +kernel
theorem dX0_seed_13 : decode cX0_seed 13 = .ok (.ifCond .eq 10, 3) := by decide +kernel
theorem dX0_seed_16 : decode cX0_seed 16 = .ok (.iload_n 3, 1) := by decide +kernel
theorem dX0_seed_17 : decode cX0_seed 17 = .ok (.invokestatic 54, 3) := by decide +kernel
theorem dX0_seed_20 : decode cX0_seed 20 = .ok (.ifCond .ne 5, 3) := by decide +kernel
theorem dX0_seed_23 : decode cX0_seed 23 = .ok (.iconst (-1), 1) := by decide +kernel
theorem dX0_seed_24 : decode cX0_seed 24 = .ok (.ireturn, 1) := by decide +kernel
theorem dX0_seed_25 : decode cX0_seed 25 = .ok (.aload_n 0, 1) := by decide +kernel
theorem dX0_seed_26 : decode cX0_seed 26 = .ok (.getfield 16, 3) := by decide +kernel
theorem dX0_seed_29 : decode cX0_seed 29 = .ok (.iload_n 1, 1) := by decide +kernel
theorem dX0_seed_30 : decode cX0_seed 30 = .ok (.iload_n 2, 1) := by decide +kernel
theorem dX0_seed_31 : decode cX0_seed 31 = .ok (.iastore, 1) := by decide +kernel
theorem dX0_seed_32 : decode cX0_seed 32 = .ok (.aload_n 0, 1) := by decide +kernel
theorem dX0_seed_33 : decode cX0_seed 33 = .ok (.getfield 19, 3) := by decide +kernel
theorem dX0_seed_36 : decode cX0_seed 36 = .ok (.iload_n 1, 1) := by decide +kernel
theorem dX0_seed_37 : decode cX0_seed 37 = .ok (.iload_n 3, 1) := by decide +kernel
theorem dX0_seed_38 : decode cX0_seed 38 = .ok (.iastore, 1) := by decide +kernel
theorem dX0_seed_39 : decode cX0_seed 39 = .ok (.aload_n 0, 1) := by decide +kernel
theorem dX0_seed_40 : decode cX0_seed 40 = .ok (.invokevirtual 51, 3) := by decide +kernel
theorem dX0_seed_43 : decode cX0_seed 43 = .ok (.iconst 0, 1) := by decide +kernel
theorem dX0_seed_44 : decode cX0_seed 44 = .ok (.ireturn, 1) := by decide +kernel
theorem dX0_groups_0 : decode cX0_groups 0 = .ok (.aload_n 0, 1) := by decide +kernel
theorem dX0_groups_1 : decode cX0_groups 1 = .ok (.iload_n 1, 1) := by decide +kernel
theorem dX0_groups_2 : decode cX0_groups 2 = .ok (.iconst 1, 1) := by decide +kernel
theorem dX0_groups_3 : decode cX0_groups 3 = .ok (.if_icmp .ge 7, 3) := by decide +kernel
theorem dX0_groups_6 : decode cX0_groups 6 = .ok (.iconst 1, 1) := by decide +kernel
theorem dX0_groups_7 : decode cX0_groups 7 = .ok (.goto 13, 3) := by decide +kernel
theorem dX0_groups_10 : decode cX0_groups 10 = .ok (.iload_n 1, 1) := by decide +kernel
theorem dX0_groups_11 : decode cX0_groups 11 = .ok (.iconst 4, 1) := by decide +kernel
theorem dX0_groups_12 : decode cX0_groups 12 = .ok (.if_icmp .le 7, 3) := by decide +kernel
theorem dX0_groups_15 : decode cX0_groups 15 = .ok (.iconst 4, 1) := by decide +kernel
theorem dX0_groups_16 : decode cX0_groups 16 = .ok (.goto 4, 3) := by decide +kernel
theorem dX0_groups_19 : decode cX0_groups 19 = .ok (.iload_n 1, 1) := by decide +kernel
theorem dX0_groups_20 : decode cX0_groups 20 = .ok (.putfield 47, 3) := by decide +kernel
theorem dX0_groups_23 : decode cX0_groups 23 = .ok (.aload_n 0, 1) := by decide +kernel
theorem dX0_groups_24 : decode cX0_groups 24 = .ok (.invokevirtual 51, 3) := by decide +kernel
theorem dX0_groups_27 : decode cX0_groups 27 = .ok (.return_, 1) := by decide +kernel
theorem dX0_round_0 : decode cX0_round 0 = .ok (.iconst 0, 1) := by decide +kernel
theorem dX0_round_1 : decode cX0_round 1 = .ok (.istore_n 1, 1) := by decide +kernel
theorem dX0_round_2 : decode cX0_round 2 = .ok (.iconst 0, 1) := by decide +kernel
theorem dX0_round_3 : decode cX0_round 3 = .ok (.istore_n 2, 1) := by decide +kernel
theorem dX0_round_4 : decode cX0_round 4 = .ok (.iload_n 2, 1) := by decide +kernel
theorem dX0_round_5 : decode cX0_round 5 = .ok (.aload_n 0, 1) := by decide +kernel
theorem dX0_round_6 : decode cX0_round 6 = .ok (.getfield 58, 3) := by decide +kernel
theorem dX0_round_9 : decode cX0_round 9 = .ok (.if_icmp .ge 40, 3) := by decide +kernel
theorem dX0_round_12 : decode cX0_round 12 = .ok (.aload_n 0, 1) := by decide +kernel
theorem dX0_round_13 : decode cX0_round 13 = .ok (.iload_n 2, 1) := by decide +kernel
theorem dX0_round_14 : decode cX0_round 14 = .ok (.invokevirtual 61, 3) := by decide +kernel
theorem dX0_round_17 : decode cX0_round 17 = .ok (.istore_n 3, 1) := by decide +kernel
theorem dX0_round_18 : decode cX0_round 18 = .ok (.iload_n 1, 1) := by decide +kernel
theorem dX0_round_19 : decode cX0_round 19 = .ok (.iload_n 3, 1) := by decide +kernel
theorem dX0_round_20 : decode cX0_round 20 = .ok (.aload_n 0, 1) := by decide +kernel
theorem dX0_round_21 : decode cX0_round 21 = .ok (.getfield 35, 3) := by decide +kernel
theorem dX0_round_24 : decode cX0_round 24 = .ok (.iload_n 2, 1) := by decide +kernel
theorem dX0_round_25 : decode cX0_round 25 = .ok (.iaload, 1) := by decide +kernel
theorem dX0_round_26 : decode cX0_round 26 = .ok (.if_icmp .eq 7, 3) := by decide +kernel
theorem dX0_round_29 : decode cX0_round 29 = .ok (.iconst 1, 1) := by decide +kernel
theorem dX0_round_30 : decode cX0_round 30 = .ok (.goto 4, 3) := by decide +kernel
theorem dX0_round_33 : decode cX0_round 33 = .ok (.iconst 0, 1) := by decide +kernel
theorem dX0_round_34 : decode cX0_round 34 = .ok (.iadd, 1) := by decide +kernel
theorem dX0_round_35 : decode cX0_round 35 = .ok (.istore_n 1, 1) := by decide +kernel
theorem dX0_round_36 : decode cX0_round 36 = .ok (.aload_n 0, 1) := by decide +kernel
theorem dX0_round_37 : decode cX0_round 37 = .ok (.getfield 35, 3) := by decide +kernel
theorem dX0_round_40 : decode cX0_round 40 = .ok (.iload_n 2, 1) := by decide +kernel
theorem dX0_round_41 : decode cX0_round 41 = .ok (.iload_n 3, 1) := by decide +kernel
theorem dX0_round_42 : decode cX0_round 42 = .ok (.iastore, 1) := by decide +kernel
theorem dX0_round_43 : decode cX0_round 43 = .ok (.iinc 2 1, 3) := by decide +kernel
theorem dX0_round_46 : decode cX0_round 46 = .ok (.goto (-42), 3) := by decide +kernel
theorem dX0_round_49 : decode cX0_round 49 = .ok (.aload_n 0, 1) := by decide +kernel
theorem dX0_round_50 : decode cX0_round 50 = .ok (.invokevirtual 65, 3) := by decide +kernel
theorem dX0_round_53 : decode cX0_round 53 = .ok (.iload_n 1, 1) := by decide +kernel
theorem dX0_round_54 : decode cX0_round 54 = .ok (.ireturn, 1) := by decide +kernel
theorem dX0_nearestGroup_0 : decode cX0_nearestGroup 0 = .ok (.aload_n 0, 1) := by decide +kernel
theorem dX0_nearestGroup_1 : decode cX0_nearestGroup 1 = .ok (.getfield 35, 3) := by decide +kernel
theorem dX0_nearestGroup_4 : decode cX0_nearestGroup 4 = .ok (.iload_n 1, 1) := by decide +kernel
theorem dX0_nearestGroup_5 : decode cX0_nearestGroup 5 = .ok (.iaload, 1) := by decide +kernel
theorem dX0_nearestGroup_6 : decode cX0_nearestGroup 6 = .ok (.istore_n 2, 1) := by decide +kernel
theorem dX0_nearestGroup_7 : decode cX0_nearestGroup 7 = .ok (.iload_n 2, 1) := by decide +kernel
theorem dX0_nearestGroup_8 : decode cX0_nearestGroup 8 = .ok (.ifCond .lt 11, 3) := by decide +kernel
theorem dX0_nearestGroup_11 : decode cX0_nearestGroup 11 = .ok (.iload_n 2, 1) := by decide +kernel
theorem dX0_nearestGroup_12 : decode cX0_nearestGroup 12 = .ok (.aload_n 0, 1) := by decide +kernel
theorem dX0_nearestGroup_13 : decode cX0_nearestGroup 13 = .ok (.getfield 47, 3) := by decide +kernel
theorem dX0_nearestGroup_16 : decode cX0_nearestGroup 16 = .ok (.if_icmp .lt 7, 3) := by decide +kernel
theorem dX0_nearestGroup_19 : decode cX0_nearestGroup 19 = .ok (.iconst 0, 1) := by decide +kernel
theorem dX0_nearestGroup_20 : decode cX0_nearestGroup 20 = .ok (.goto 4, 3) := by decide +kernel
theorem dX0_nearestGroup_23 : decode cX0_nearestGroup 23 = .ok (.iload_n 2, 1) := by decide +kernel
theorem dX0_nearestGroup_24 : decode cX0_nearestGroup 24 = .ok (.istore_n 3, 1) := by decide +kernel
theorem dX0_nearestGroup_25 : decode cX0_nearestGroup 25 = .ok (.aload_n 0, 1) := by decide +kernel
theorem dX0_nearestGroup_26 : decode cX0_nearestGroup 26 = .ok (.iload_n 1, 1) := by decide +kernel
theorem dX0_nearestGroup_27 : decode cX0_nearestGroup 27 = .ok (.iload_n 3, 1) := by decide +kernel
theorem dX0_nearestGroup_28 : decode cX0_nearestGroup 28 = .ok (.invokevirtual 83, 3) := by decide +kernel
theorem dX0_nearestGroup_31 : decode cX0_nearestGroup 31 = .ok (.aload_n 0, 1) := by decide +kernel
theorem dX0_nearestGroup_32 : decode cX0_nearestGroup 32 = .ok (.getfield 76, 3) := by decide +kernel
theorem dX0_nearestGroup_35 : decode cX0_nearestGroup 35 = .ok (.lstore 4, 2) := by decide +kernel
theorem dX0_nearestGroup_37 : decode cX0_nearestGroup 37 = .ok (.aload_n 0, 1) := by decide +kernel
theorem dX0_nearestGroup_38 : decode cX0_nearestGroup 38 = .ok (.getfield 80, 3) := by decide +kernel
theorem dX0_nearestGroup_41 : decode cX0_nearestGroup 41 = .ok (.lstore 6, 2) := by decide +kernel
theorem dX0_nearestGroup_43 : decode cX0_nearestGroup 43 = .ok (.iload_n 2, 1) := by decide +kernel
theorem dX0_nearestGroup_44 : decode cX0_nearestGroup 44 = .ok (.ifCond .lt 16, 3) := by decide +kernel
theorem dX0_nearestGroup_47 : decode cX0_nearestGroup 47 = .ok (.aload_n 0, 1) := by decide +kernel
theorem dX0_nearestGroup_48 : decode cX0_nearestGroup 48 = .ok (.getfield 31, 3) := by decide +kernel
theorem dX0_nearestGroup_51 : decode cX0_nearestGroup 51 = .ok (.iload_n 3, 1) := by decide +kernel
theorem dX0_nearestGroup_52 : decode cX0_nearestGroup 52 = .ok (.baload, 1) := by decide +kernel
theorem dX0_nearestGroup_53 : decode cX0_nearestGroup 53 = .ok (.ifCond .ne 7, 3) := by decide +kernel
theorem dX0_nearestGroup_56 : decode cX0_nearestGroup 56 = .ok (.iconst 1, 1) := by decide +kernel
theorem dX0_nearestGroup_57 : decode cX0_nearestGroup 57 = .ok (.goto 4, 3) := by decide +kernel
theorem dX0_nearestGroup_60 : decode cX0_nearestGroup 60 = .ok (.iconst 0, 1) := by decide +kernel
theorem dX0_nearestGroup_61 : decode cX0_nearestGroup 61 = .ok (.istore 8, 2) := by decide +kernel
theorem dX0_nearestGroup_63 : decode cX0_nearestGroup 63 = .ok (.iconst 0, 1) := by decide +kernel
theorem dX0_nearestGroup_64 : decode cX0_nearestGroup 64 = .ok (.istore 9, 2) := by decide +kernel
theorem dX0_nearestGroup_66 : decode cX0_nearestGroup 66 = .ok (.iload 9, 2) := by decide +kernel
theorem dX0_nearestGroup_68 : decode cX0_nearestGroup 68 = .ok (.aload_n 0, 1) := by decide +kernel
theorem dX0_nearestGroup_69 : decode cX0_nearestGroup 69 = .ok (.getfield 47, 3) := by decide +kernel
theorem dX0_nearestGroup_72 : decode cX0_nearestGroup 72 = .ok (.if_icmp .ge 118, 3) := by decide +kernel
theorem dX0_nearestGroup_75 : decode cX0_nearestGroup 75 = .ok (.iload 8, 2) := by decide +kernel
theorem dX0_nearestGroup_77 : decode cX0_nearestGroup 77 = .ok (.ifCond .eq 17, 3) := by decide +kernel
theorem dX0_nearestGroup_80 : decode cX0_nearestGroup 80 = .ok (.aload_n 0, 1) := by decide +kernel
theorem dX0_nearestGroup_81 : decode cX0_nearestGroup 81 = .ok (.getfield 31, 3) := by decide +kernel
theorem dX0_nearestGroup_84 : decode cX0_nearestGroup 84 = .ok (.iload 9, 2) := by decide +kernel
theorem dX0_nearestGroup_86 : decode cX0_nearestGroup 86 = .ok (.baload, 1) := by decide +kernel
theorem dX0_nearestGroup_87 : decode cX0_nearestGroup 87 = .ok (.ifCond .ne 7, 3) := by decide +kernel
theorem dX0_nearestGroup_90 : decode cX0_nearestGroup 90 = .ok (.iconst 1, 1) := by decide +kernel
theorem dX0_nearestGroup_91 : decode cX0_nearestGroup 91 = .ok (.goto 4, 3) := by decide +kernel
theorem dX0_nearestGroup_94 : decode cX0_nearestGroup 94 = .ok (.iconst 0, 1) := by decide +kernel
theorem dX0_nearestGroup_95 : decode cX0_nearestGroup 95 = .ok (.istore 10, 2) := by decide +kernel
theorem dX0_nearestGroup_97 : decode cX0_nearestGroup 97 = .ok (.iload 9, 2) := by decide +kernel
theorem dX0_nearestGroup_99 : decode cX0_nearestGroup 99 = .ok (.iload_n 3, 1) := by decide +kernel
theorem dX0_nearestGroup_100 : decode cX0_nearestGroup 100 = .ok (.if_icmp .eq 84, 3) := by decide +kernel
theorem dX0_nearestGroup_103 : decode cX0_nearestGroup 103 = .ok (.iload 10, 2) := by decide +kernel
theorem dX0_nearestGroup_105 : decode cX0_nearestGroup 105 = .ok (.ifCond .ne 79, 3) := by decide +kernel
theorem dX0_nearestGroup_108 : decode cX0_nearestGroup 108 = .ok (.aload_n 0, 1) := by decide +kernel
theorem dX0_nearestGroup_109 : decode cX0_nearestGroup 109 = .ok (.iload_n 3, 1) := by decide +kernel
theorem dX0_nearestGroup_110 : decode cX0_nearestGroup 110 = .ok (.iload 9, 2) := by decide +kernel
theorem dX0_nearestGroup_112 : decode cX0_nearestGroup 112 = .ok (.lload 4, 2) := by decide +kernel
theorem dX0_nearestGroup_114 : decode cX0_nearestGroup 114 = .ok (.lload 6, 2) := by decide +kernel
theorem dX0_nearestGroup_116 : decode cX0_nearestGroup 116 = .ok (.invokevirtual 87, 3) := by decide +kernel
theorem dX0_nearestGroup_119 : decode cX0_nearestGroup 119 = .ok (.ifCond .ne 65, 3) := by decide +kernel
theorem dX0_nearestGroup_122 : decode cX0_nearestGroup 122 = .ok (.aload_n 0, 1) := by decide +kernel
theorem dX0_nearestGroup_123 : decode cX0_nearestGroup 123 = .ok (.iload_n 1, 1) := by decide +kernel
theorem dX0_nearestGroup_124 : decode cX0_nearestGroup 124 = .ok (.iload 9, 2) := by decide +kernel
theorem dX0_nearestGroup_126 : decode cX0_nearestGroup 126 = .ok (.invokevirtual 83, 3) := by decide +kernel
theorem dX0_nearestGroup_129 : decode cX0_nearestGroup 129 = .ok (.aload_n 0, 1) := by decide +kernel
theorem dX0_nearestGroup_130 : decode cX0_nearestGroup 130 = .ok (.getfield 76, 3) := by decide +kernel
theorem dX0_nearestGroup_133 : decode cX0_nearestGroup 133 = .ok (.lload 6, 2) := by decide +kernel
theorem dX0_nearestGroup_135 : decode cX0_nearestGroup 135 = .ok (.lmul, 1) := by decide +kernel
theorem dX0_nearestGroup_136 : decode cX0_nearestGroup 136 = .ok (.lstore 11, 2) := by decide +kernel
theorem dX0_nearestGroup_138 : decode cX0_nearestGroup 138 = .ok (.lload 4, 2) := by decide +kernel
theorem dX0_nearestGroup_140 : decode cX0_nearestGroup 140 = .ok (.aload_n 0, 1) := by decide +kernel
theorem dX0_nearestGroup_141 : decode cX0_nearestGroup 141 = .ok (.getfield 80, 3) := by decide +kernel
theorem dX0_nearestGroup_144 : decode cX0_nearestGroup 144 = .ok (.lmul, 1) := by decide +kernel
theorem dX0_nearestGroup_145 : decode cX0_nearestGroup 145 = .ok (.lstore 13, 2) := by decide +kernel
theorem dX0_nearestGroup_147 : decode cX0_nearestGroup 147 = .ok (.lload 11, 2) := by decide +kernel
theorem dX0_nearestGroup_149 : decode cX0_nearestGroup 149 = .ok (.lload 13, 2) := by decide +kernel
theorem dX0_nearestGroup_151 : decode cX0_nearestGroup 151 = .ok (.lcmp, 1) := by decide +kernel
theorem dX0_nearestGroup_152 : decode cX0_nearestGroup 152 = .ok (.ifCond .lt 17, 3) := by decide +kernel
theorem dX0_nearestGroup_155 : decode cX0_nearestGroup 155 = .ok (.lload 11, 2) := by decide +kernel
theorem dX0_nearestGroup_157 : decode cX0_nearestGroup 157 = .ok (.lload 13, 2) := by decide +kernel
theorem dX0_nearestGroup_159 : decode cX0_nearestGroup 159 = .ok (.lcmp, 1) := by decide +kernel
theorem dX0_nearestGroup_160 : decode cX0_nearestGroup 160 = .ok (.ifCond .ne 24, 3) := by decide +kernel
theorem dX0_nearestGroup_163 : decode cX0_nearestGroup 163 = .ok (.iload 9, 2) := by decide +kernel
theorem dX0_nearestGroup_165 : decode cX0_nearestGroup 165 = .ok (.iload_n 3, 1) := by decide +kernel
theorem dX0_nearestGroup_166 : decode cX0_nearestGroup 166 = .ok (.if_icmp .ge 18, 3) := by decide +kernel
theorem dX0_nearestGroup_169 : decode cX0_nearestGroup 169 = .ok (.iload 9, 2) := by decide +kernel
theorem dX0_nearestGroup_171 : decode cX0_nearestGroup 171 = .ok (.istore_n 3, 1) := by decide +kernel
theorem dX0_nearestGroup_172 : decode cX0_nearestGroup 172 = .ok (.aload_n 0, 1) := by decide +kernel
theorem dX0_nearestGroup_173 : decode cX0_nearestGroup 173 = .ok (.getfield 76, 3) := by decide +kernel
theorem dX0_nearestGroup_176 : decode cX0_nearestGroup 176 = .ok (.lstore 4, 2) := by decide +kernel
theorem dX0_nearestGroup_178 : decode cX0_nearestGroup 178 = .ok (.aload_n 0, 1) := by decide +kernel
theorem dX0_nearestGroup_179 : decode cX0_nearestGroup 179 = .ok (.getfield 80, 3) := by decide +kernel
theorem dX0_nearestGroup_182 : decode cX0_nearestGroup 182 = .ok (.lstore 6, 2) := by decide +kernel
theorem dX0_nearestGroup_184 : decode cX0_nearestGroup 184 = .ok (.iinc 9 1, 3) := by decide +kernel
theorem dX0_nearestGroup_187 : decode cX0_nearestGroup 187 = .ok (.goto (-121), 3) := by decide +kernel
theorem dX0_nearestGroup_190 : decode cX0_nearestGroup 190 = .ok (.iload_n 3, 1) := by decide +kernel
theorem dX0_nearestGroup_191 : decode cX0_nearestGroup 191 = .ok (.ireturn, 1) := by decide +kernel
theorem dX0_measure_0 : decode cX0_measure 0 = .ok (.aload_n 0, 1) := by decide +kernel
theorem dX0_measure_1 : decode cX0_measure 1 = .ok (.getfield 28, 3) := by decide +kernel
theorem dX0_measure_4 : decode cX0_measure 4 = .ok (.iload_n 2, 1) := by decide +kernel
theorem dX0_measure_5 : decode cX0_measure 5 = .ok (.iaload, 1) := by decide +kernel
theorem dX0_measure_6 : decode cX0_measure 6 = .ok (.i2l, 1) := by decide +kernel
theorem dX0_measure_7 : decode cX0_measure 7 = .ok (.aload_n 0, 1) := by decide +kernel
theorem dX0_measure_8 : decode cX0_measure 8 = .ok (.getfield 7, 3) := by decide +kernel
theorem dX0_measure_11 : decode cX0_measure 11 = .ok (.iload_n 1, 1) := by decide +kernel
theorem dX0_measure_12 : decode cX0_measure 12 = .ok (.iaload, 1) := by decide +kernel
theorem dX0_measure_13 : decode cX0_measure 13 = .ok (.i2l, 1) := by decide +kernel
theorem dX0_measure_14 : decode cX0_measure 14 = .ok (.lmul, 1) := by decide +kernel
theorem dX0_measure_15 : decode cX0_measure 15 = .ok (.aload_n 0, 1) := by decide +kernel
theorem dX0_measure_16 : decode cX0_measure 16 = .ok (.getfield 22, 3) := by decide +kernel
theorem dX0_measure_19 : decode cX0_measure 19 = .ok (.iload_n 2, 1) := by decide +kernel
theorem dX0_measure_20 : decode cX0_measure 20 = .ok (.iaload, 1) := by decide +kernel
theorem dX0_measure_21 : decode cX0_measure 21 = .ok (.i2l, 1) := by decide +kernel
theorem dX0_measure_22 : decode cX0_measure 22 = .ok (.lsub, 1) := by decide +kernel
theorem dX0_measure_23 : decode cX0_measure 23 = .ok (.lstore_n 3, 1) := by decide +kernel
theorem dX0_measure_24 : decode cX0_measure 24 = .ok (.aload_n 0, 1) := by decide +kernel
theorem dX0_measure_25 : decode cX0_measure 25 = .ok (.getfield 28, 3) := by decide +kernel
theorem dX0_measure_28 : decode cX0_measure 28 = .ok (.iload_n 2, 1) := by decide +kernel
theorem dX0_measure_29 : decode cX0_measure 29 = .ok (.iaload, 1) := by decide +kernel
theorem dX0_measure_30 : decode cX0_measure 30 = .ok (.i2l, 1) := by decide +kernel
theorem dX0_measure_31 : decode cX0_measure 31 = .ok (.aload_n 0, 1) := by decide +kernel
theorem dX0_measure_32 : decode cX0_measure 32 = .ok (.getfield 13, 3) := by decide +kernel
theorem dX0_measure_35 : decode cX0_measure 35 = .ok (.iload_n 1, 1) := by decide +kernel
theorem dX0_measure_36 : decode cX0_measure 36 = .ok (.iaload, 1) := by decide +kernel
theorem dX0_measure_37 : decode cX0_measure 37 = .ok (.i2l, 1) := by decide +kernel
theorem dX0_measure_38 : decode cX0_measure 38 = .ok (.lmul, 1) := by decide +kernel
theorem dX0_measure_39 : decode cX0_measure 39 = .ok (.aload_n 0, 1) := by decide +kernel
theorem dX0_measure_40 : decode cX0_measure 40 = .ok (.getfield 25, 3) := by decide +kernel
theorem dX0_measure_43 : decode cX0_measure 43 = .ok (.iload_n 2, 1) := by decide +kernel
theorem dX0_measure_44 : decode cX0_measure 44 = .ok (.iaload, 1) := by decide +kernel
theorem dX0_measure_45 : decode cX0_measure 45 = .ok (.i2l, 1) := by decide +kernel
theorem dX0_measure_46 : decode cX0_measure 46 = .ok (.lsub, 1) := by decide +kernel
theorem dX0_measure_47 : decode cX0_measure 47 = .ok (.lstore 5, 2) := by decide +kernel
theorem dX0_measure_49 : decode cX0_measure 49 = .ok (.aload_n 0, 1) := by decide +kernel
theorem dX0_measure_50 : decode cX0_measure 50 = .ok (.lload_n 3, 1) := by decide +kernel
theorem dX0_measure_51 : decode cX0_measure 51 = .ok (.lload_n 3, 1) := by decide +kernel
theorem dX0_measure_52 : decode cX0_measure 52 = .ok (.lmul, 1) := by decide +kernel
theorem dX0_measure_53 : decode cX0_measure 53 = .ok (.lload 5, 2) := by decide +kernel
theorem dX0_measure_55 : decode cX0_measure 55 = .ok (.lload 5, 2) := by decide +kernel
theorem dX0_measure_57 : decode cX0_measure 57 = .ok (.lmul, 1) := by decide +kernel
theorem dX0_measure_58 : decode cX0_measure 58 = .ok (.ladd, 1) := by decide +kernel
theorem dX0_measure_59 : decode cX0_measure 59 = .ok (.putfield 76, 3) := by decide +kernel
theorem dX0_measure_62 : decode cX0_measure 62 = .ok (.aload_n 0, 1) := by decide +kernel
theorem dX0_measure_63 : decode cX0_measure 63 = .ok (.aload_n 0, 1) := by decide +kernel
theorem dX0_measure_64 : decode cX0_measure 64 = .ok (.getfield 28, 3) := by decide +kernel
theorem dX0_measure_67 : decode cX0_measure 67 = .ok (.iload_n 2, 1) := by decide +kernel
theorem dX0_measure_68 : decode cX0_measure 68 = .ok (.iaload, 1) := by decide +kernel
theorem dX0_measure_69 : decode cX0_measure 69 = .ok (.i2l, 1) := by decide +kernel
theorem dX0_measure_70 : decode cX0_measure 70 = .ok (.aload_n 0, 1) := by decide +kernel
theorem dX0_measure_71 : decode cX0_measure 71 = .ok (.getfield 28, 3) := by decide +kernel
theorem dX0_measure_74 : decode cX0_measure 74 = .ok (.iload_n 2, 1) := by decide +kernel
theorem dX0_measure_75 : decode cX0_measure 75 = .ok (.iaload, 1) := by decide +kernel
theorem dX0_measure_76 : decode cX0_measure 76 = .ok (.i2l, 1) := by decide +kernel
theorem dX0_measure_77 : decode cX0_measure 77 = .ok (.lmul, 1) := by decide +kernel
theorem dX0_measure_78 : decode cX0_measure 78 = .ok (.putfield 80, 3) := by decide +kernel
theorem dX0_measure_81 : decode cX0_measure 81 = .ok (.return_, 1) := by decide +kernel
theorem dX0_farBeyond_0 : decode cX0_farBeyond 0 = .ok (.aload_n 0, 1) := by decide +kernel
theorem dX0_farBeyond_1 : decode cX0_farBeyond 1 = .ok (.iload_n 1, 1) := by decide +kernel
theorem dX0_farBeyond_2 : decode cX0_farBeyond 2 = .ok (.iload_n 2, 1) := by decide +kernel
theorem dX0_farBeyond_3 : decode cX0_farBeyond 3 = .ok (.invokevirtual 91, 3) := by decide +kernel
theorem dX0_farBeyond_6 : decode cX0_farBeyond 6 = .ok (.ldc2_w 94, 3) := by decide +kernel
theorem dX0_farBeyond_9 : decode cX0_farBeyond 9 = .ok (.lload_n 3, 1) := by decide +kernel
theorem dX0_farBeyond_10 : decode cX0_farBeyond 10 = .ok (.lmul, 1) := by decide +kernel
end
section
set_option maxRecDepth 100000
theorem dX0_farBeyond_11 : decode cX0_farBeyond 11 = .ok (.aload_n 0, 1) := by decide +kernel
theorem dX0_farBeyond_12 : decode cX0_farBeyond 12 = .ok (.getfield 80, 3) := by decide +kernel
theorem dX0_farBeyond_15 : decode cX0_farBeyond 15 = .ok (.lmul, 1) := by decide +kernel
theorem dX0_farBeyond_16 : decode cX0_farBeyond 16 = .ok (.aload_n 0, 1) := by decide +kernel
theorem dX0_farBeyond_17 : decode cX0_farBeyond 17 = .ok (.getfield 76, 3) := by decide +kernel
theorem dX0_farBeyond_20 : decode cX0_farBeyond 20 = .ok (.lload 5, 2) := by decide +kernel
theorem dX0_farBeyond_22 : decode cX0_farBeyond 22 = .ok (.lmul, 1) := by decide +kernel
theorem dX0_farBeyond_23 : decode cX0_farBeyond 23 = .ok (.lcmp, 1) := by decide +kernel
theorem dX0_farBeyond_24 : decode cX0_farBeyond 24 = .ok (.ifCond .ge 7, 3) := by decide +kernel
theorem dX0_farBeyond_27 : decode cX0_farBeyond 27 = .ok (.iconst 1, 1) := by decide +kernel
theorem dX0_farBeyond_28 : decode cX0_farBeyond 28 = .ok (.goto 4, 3) := by decide +kernel
theorem dX0_farBeyond_31 : decode cX0_farBeyond 31 = .ok (.iconst 0, 1) := by decide +kernel
theorem dX0_farBeyond_32 : decode cX0_farBeyond 32 = .ok (.ireturn, 1) := by decide +kernel
theorem dX0_measureMiddles_0 : decode cX0_measureMiddles 0 = .ok (.aload_n 0, 1) := by decide +kernel
theorem dX0_measureMiddles_1 : decode cX0_measureMiddles 1 = .ok (.getfield 22, 3) := by decide +kernel
theorem dX0_measureMiddles_4 : decode cX0_measureMiddles 4 = .ok (.iload_n 1, 1) := by decide +kernel
theorem dX0_measureMiddles_5 : decode cX0_measureMiddles 5 = .ok (.iaload, 1) := by decide +kernel
theorem dX0_measureMiddles_6 : decode cX0_measureMiddles 6 = .ok (.i2l, 1) := by decide +kernel
theorem dX0_measureMiddles_7 : decode cX0_measureMiddles 7 = .ok (.aload_n 0, 1) := by decide +kernel
theorem dX0_measureMiddles_8 : decode cX0_measureMiddles 8 = .ok (.getfield 28, 3) := by decide +kernel
theorem dX0_measureMiddles_11 : decode cX0_measureMiddles 11 = .ok (.iload_n 2, 1) := by decide +kernel
theorem dX0_measureMiddles_12 : decode cX0_measureMiddles 12 = .ok (.iaload, 1) := by decide +kernel
theorem dX0_measureMiddles_13 : decode cX0_measureMiddles 13 = .ok (.i2l, 1) := by decide +kernel
theorem dX0_measureMiddles_14 : decode cX0_measureMiddles 14 = .ok (.lmul, 1) := by decide +kernel
theorem dX0_measureMiddles_15 : decode cX0_measureMiddles 15 = .ok (.aload_n 0, 1) := by decide +kernel
theorem dX0_measureMiddles_16 : decode cX0_measureMiddles 16 = .ok (.getfield 22, 3) := by decide +kernel
theorem dX0_measureMiddles_19 : decode cX0_measureMiddles 19 = .ok (.iload_n 2, 1) := by decide +kernel
theorem dX0_measureMiddles_20 : decode cX0_measureMiddles 20 = .ok (.iaload, 1) := by decide +kernel
theorem dX0_measureMiddles_21 : decode cX0_measureMiddles 21 = .ok (.i2l, 1) := by decide +kernel
theorem dX0_measureMiddles_22 : decode cX0_measureMiddles 22 = .ok (.aload_n 0, 1) := by decide +kernel
theorem dX0_measureMiddles_23 : decode cX0_measureMiddles 23 = .ok (.getfield 28, 3) := by decide +kernel
theorem dX0_measureMiddles_26 : decode cX0_measureMiddles 26 = .ok (.iload_n 1, 1) := by decide +kernel
theorem dX0_measureMiddles_27 : decode cX0_measureMiddles 27 = .ok (.iaload, 1) := by decide +kernel
theorem dX0_measureMiddles_28 : decode cX0_measureMiddles 28 = .ok (.i2l, 1) := by decide +kernel
theorem dX0_measureMiddles_29 : decode cX0_measureMiddles 29 = .ok (.lmul, 1) := by decide +kernel
theorem dX0_measureMiddles_30 : decode cX0_measureMiddles 30 = .ok (.lsub, 1) := by decide +kernel
theorem dX0_measureMiddles_31 : decode cX0_measureMiddles 31 = .ok (.lstore_n 3, 1) := by decide +kernel
theorem dX0_measureMiddles_32 : decode cX0_measureMiddles 32 = .ok (.aload_n 0, 1) := by decide +kernel
theorem dX0_measureMiddles_33 : decode cX0_measureMiddles 33 = .ok (.getfield 25, 3) := by decide +kernel
theorem dX0_measureMiddles_36 : decode cX0_measureMiddles 36 = .ok (.iload_n 1, 1) := by decide +kernel
theorem dX0_measureMiddles_37 : decode cX0_measureMiddles 37 = .ok (.iaload, 1) := by decide +kernel
theorem dX0_measureMiddles_38 : decode cX0_measureMiddles 38 = .ok (.i2l, 1) := by decide +kernel
theorem dX0_measureMiddles_39 : decode cX0_measureMiddles 39 = .ok (.aload_n 0, 1) := by decide +kernel
theorem dX0_measureMiddles_40 : decode cX0_measureMiddles 40 = .ok (.getfield 28, 3) := by decide +kernel
theorem dX0_measureMiddles_43 : decode cX0_measureMiddles 43 = .ok (.iload_n 2, 1) := by decide +kernel
theorem dX0_measureMiddles_44 : decode cX0_measureMiddles 44 = .ok (.iaload, 1) := by decide +kernel
theorem dX0_measureMiddles_45 : decode cX0_measureMiddles 45 = .ok (.i2l, 1) := by decide +kernel
theorem dX0_measureMiddles_46 : decode cX0_measureMiddles 46 = .ok (.lmul, 1) := by decide +kernel
theorem dX0_measureMiddles_47 : decode cX0_measureMiddles 47 = .ok (.aload_n 0, 1) := by decide +kernel
theorem dX0_measureMiddles_48 : decode cX0_measureMiddles 48 = .ok (.getfield 25, 3) := by decide +kernel
theorem dX0_measureMiddles_51 : decode cX0_measureMiddles 51 = .ok (.iload_n 2, 1) := by decide +kernel
theorem dX0_measureMiddles_52 : decode cX0_measureMiddles 52 = .ok (.iaload, 1) := by decide +kernel
theorem dX0_measureMiddles_53 : decode cX0_measureMiddles 53 = .ok (.i2l, 1) := by decide +kernel
theorem dX0_measureMiddles_54 : decode cX0_measureMiddles 54 = .ok (.aload_n 0, 1) := by decide +kernel
theorem dX0_measureMiddles_55 : decode cX0_measureMiddles 55 = .ok (.getfield 28, 3) := by decide +kernel
theorem dX0_measureMiddles_58 : decode cX0_measureMiddles 58 = .ok (.iload_n 1, 1) := by decide +kernel
theorem dX0_measureMiddles_59 : decode cX0_measureMiddles 59 = .ok (.iaload, 1) := by decide +kernel
theorem dX0_measureMiddles_60 : decode cX0_measureMiddles 60 = .ok (.i2l, 1) := by decide +kernel
theorem dX0_measureMiddles_61 : decode cX0_measureMiddles 61 = .ok (.lmul, 1) := by decide +kernel
theorem dX0_measureMiddles_62 : decode cX0_measureMiddles 62 = .ok (.lsub, 1) := by decide +kernel
theorem dX0_measureMiddles_63 : decode cX0_measureMiddles 63 = .ok (.lstore 5, 2) := by decide +kernel
theorem dX0_measureMiddles_65 : decode cX0_measureMiddles 65 = .ok (.aload_n 0, 1) := by decide +kernel
theorem dX0_measureMiddles_66 : decode cX0_measureMiddles 66 = .ok (.lload_n 3, 1) := by decide +kernel
theorem dX0_measureMiddles_67 : decode cX0_measureMiddles 67 = .ok (.lload_n 3, 1) := by decide +kernel
theorem dX0_measureMiddles_68 : decode cX0_measureMiddles 68 = .ok (.lmul, 1) := by decide +kernel
theorem dX0_measureMiddles_69 : decode cX0_measureMiddles 69 = .ok (.lload 5, 2) := by decide +kernel
theorem dX0_measureMiddles_71 : decode cX0_measureMiddles 71 = .ok (.lload 5, 2) := by decide +kernel
theorem dX0_measureMiddles_73 : decode cX0_measureMiddles 73 = .ok (.lmul, 1) := by decide +kernel
theorem dX0_measureMiddles_74 : decode cX0_measureMiddles 74 = .ok (.ladd, 1) := by decide +kernel
theorem dX0_measureMiddles_75 : decode cX0_measureMiddles 75 = .ok (.putfield 76, 3) := by decide +kernel
theorem dX0_measureMiddles_78 : decode cX0_measureMiddles 78 = .ok (.aload_n 0, 1) := by decide +kernel
theorem dX0_measureMiddles_79 : decode cX0_measureMiddles 79 = .ok (.getfield 28, 3) := by decide +kernel
theorem dX0_measureMiddles_82 : decode cX0_measureMiddles 82 = .ok (.iload_n 1, 1) := by decide +kernel
theorem dX0_measureMiddles_83 : decode cX0_measureMiddles 83 = .ok (.iaload, 1) := by decide +kernel
theorem dX0_measureMiddles_84 : decode cX0_measureMiddles 84 = .ok (.i2l, 1) := by decide +kernel
theorem dX0_measureMiddles_85 : decode cX0_measureMiddles 85 = .ok (.aload_n 0, 1) := by decide +kernel
theorem dX0_measureMiddles_86 : decode cX0_measureMiddles 86 = .ok (.getfield 28, 3) := by decide +kernel
theorem dX0_measureMiddles_89 : decode cX0_measureMiddles 89 = .ok (.iload_n 2, 1) := by decide +kernel
theorem dX0_measureMiddles_90 : decode cX0_measureMiddles 90 = .ok (.iaload, 1) := by decide +kernel
theorem dX0_measureMiddles_91 : decode cX0_measureMiddles 91 = .ok (.i2l, 1) := by decide +kernel
theorem dX0_measureMiddles_92 : decode cX0_measureMiddles 92 = .ok (.lmul, 1) := by decide +kernel
theorem dX0_measureMiddles_93 : decode cX0_measureMiddles 93 = .ok (.lstore 7, 2) := by decide +kernel
theorem dX0_measureMiddles_95 : decode cX0_measureMiddles 95 = .ok (.aload_n 0, 1) := by decide +kernel
theorem dX0_measureMiddles_96 : decode cX0_measureMiddles 96 = .ok (.lload 7, 2) := by decide +kernel
theorem dX0_measureMiddles_98 : decode cX0_measureMiddles 98 = .ok (.lload 7, 2) := by decide +kernel
theorem dX0_measureMiddles_100 : decode cX0_measureMiddles 100 = .ok (.lmul, 1) := by decide +kernel
theorem dX0_measureMiddles_101 : decode cX0_measureMiddles 101 = .ok (.putfield 80, 3) := by decide +kernel
theorem dX0_measureMiddles_104 : decode cX0_measureMiddles 104 = .ok (.return_, 1) := by decide +kernel
theorem dX0_moveMiddles_0 : decode cX0_moveMiddles 0 = .ok (.iconst 0, 1) := by decide +kernel
theorem dX0_moveMiddles_1 : decode cX0_moveMiddles 1 = .ok (.istore_n 1, 1) := by decide +kernel
theorem dX0_moveMiddles_2 : decode cX0_moveMiddles 2 = .ok (.iload_n 1, 1) := by decide +kernel
theorem dX0_moveMiddles_3 : decode cX0_moveMiddles 3 = .ok (.iconst 4, 1) := by decide +kernel
theorem dX0_moveMiddles_4 : decode cX0_moveMiddles 4 = .ok (.if_icmp .ge 30, 3) := by decide +kernel
theorem dX0_moveMiddles_7 : decode cX0_moveMiddles 7 = .ok (.aload_n 0, 1) := by decide +kernel
theorem dX0_moveMiddles_8 : decode cX0_moveMiddles 8 = .ok (.getfield 38, 3) := by decide +kernel
theorem dX0_moveMiddles_11 : decode cX0_moveMiddles 11 = .ok (.iload_n 1, 1) := by decide +kernel
theorem dX0_moveMiddles_12 : decode cX0_moveMiddles 12 = .ok (.iconst 0, 1) := by decide +kernel
theorem dX0_moveMiddles_13 : decode cX0_moveMiddles 13 = .ok (.iastore, 1) := by decide +kernel
theorem dX0_moveMiddles_14 : decode cX0_moveMiddles 14 = .ok (.aload_n 0, 1) := by decide +kernel
theorem dX0_moveMiddles_15 : decode cX0_moveMiddles 15 = .ok (.getfield 41, 3) := by decide +kernel
theorem dX0_moveMiddles_18 : decode cX0_moveMiddles 18 = .ok (.iload_n 1, 1) := by decide +kernel
theorem dX0_moveMiddles_19 : decode cX0_moveMiddles 19 = .ok (.iconst 0, 1) := by decide +kernel
theorem dX0_moveMiddles_20 : decode cX0_moveMiddles 20 = .ok (.iastore, 1) := by decide +kernel
theorem dX0_moveMiddles_21 : decode cX0_moveMiddles 21 = .ok (.aload_n 0, 1) := by decide +kernel
theorem dX0_moveMiddles_22 : decode cX0_moveMiddles 22 = .ok (.getfield 44, 3) := by decide +kernel
theorem dX0_moveMiddles_25 : decode cX0_moveMiddles 25 = .ok (.iload_n 1, 1) := by decide +kernel
theorem dX0_moveMiddles_26 : decode cX0_moveMiddles 26 = .ok (.iconst 0, 1) := by decide +kernel
theorem dX0_moveMiddles_27 : decode cX0_moveMiddles 27 = .ok (.iastore, 1) := by decide +kernel
theorem dX0_moveMiddles_28 : decode cX0_moveMiddles 28 = .ok (.iinc 1 1, 3) := by decide +kernel
theorem dX0_moveMiddles_31 : decode cX0_moveMiddles 31 = .ok (.goto (-29), 3) := by decide +kernel
theorem dX0_moveMiddles_34 : decode cX0_moveMiddles 34 = .ok (.iconst 0, 1) := by decide +kernel
theorem dX0_moveMiddles_35 : decode cX0_moveMiddles 35 = .ok (.istore_n 1, 1) := by decide +kernel
theorem dX0_moveMiddles_36 : decode cX0_moveMiddles 36 = .ok (.iload_n 1, 1) := by decide +kernel
theorem dX0_moveMiddles_37 : decode cX0_moveMiddles 37 = .ok (.aload_n 0, 1) := by decide +kernel
theorem dX0_moveMiddles_38 : decode cX0_moveMiddles 38 = .ok (.getfield 58, 3) := by decide +kernel
theorem dX0_moveMiddles_41 : decode cX0_moveMiddles 41 = .ok (.if_icmp .ge 56, 3) := by decide +kernel
theorem dX0_moveMiddles_44 : decode cX0_moveMiddles 44 = .ok (.aload_n 0, 1) := by decide +kernel
theorem dX0_moveMiddles_45 : decode cX0_moveMiddles 45 = .ok (.getfield 35, 3) := by decide +kernel
theorem dX0_moveMiddles_48 : decode cX0_moveMiddles 48 = .ok (.iload_n 1, 1) := by decide +kernel
theorem dX0_moveMiddles_49 : decode cX0_moveMiddles 49 = .ok (.iaload, 1) := by decide +kernel
theorem dX0_moveMiddles_50 : decode cX0_moveMiddles 50 = .ok (.istore_n 2, 1) := by decide +kernel
theorem dX0_moveMiddles_51 : decode cX0_moveMiddles 51 = .ok (.aload_n 0, 1) := by decide +kernel
theorem dX0_moveMiddles_52 : decode cX0_moveMiddles 52 = .ok (.getfield 38, 3) := by decide +kernel
theorem dX0_moveMiddles_55 : decode cX0_moveMiddles 55 = .ok (.iload_n 2, 1) := by decide +kernel
theorem dX0_moveMiddles_56 : decode cX0_moveMiddles 56 = .ok (.dup2, 1) := by decide +kernel
theorem dX0_moveMiddles_57 : decode cX0_moveMiddles 57 = .ok (.iaload, 1) := by decide +kernel
theorem dX0_moveMiddles_58 : decode cX0_moveMiddles 58 = .ok (.aload_n 0, 1) := by decide +kernel
theorem dX0_moveMiddles_59 : decode cX0_moveMiddles 59 = .ok (.getfield 7, 3) := by decide +kernel
theorem dX0_moveMiddles_62 : decode cX0_moveMiddles 62 = .ok (.iload_n 1, 1) := by decide +kernel
theorem dX0_moveMiddles_63 : decode cX0_moveMiddles 63 = .ok (.iaload, 1) := by decide +kernel
theorem dX0_moveMiddles_64 : decode cX0_moveMiddles 64 = .ok (.iadd, 1) := by decide +kernel
theorem dX0_moveMiddles_65 : decode cX0_moveMiddles 65 = .ok (.iastore, 1) := by decide +kernel
theorem dX0_moveMiddles_66 : decode cX0_moveMiddles 66 = .ok (.aload_n 0, 1) := by decide +kernel
theorem dX0_moveMiddles_67 : decode cX0_moveMiddles 67 = .ok (.getfield 41, 3) := by decide +kernel
theorem dX0_moveMiddles_70 : decode cX0_moveMiddles 70 = .ok (.iload_n 2, 1) := by decide +kernel
theorem dX0_moveMiddles_71 : decode cX0_moveMiddles 71 = .ok (.dup2, 1) := by decide +kernel
theorem dX0_moveMiddles_72 : decode cX0_moveMiddles 72 = .ok (.iaload, 1) := by decide +kernel
theorem dX0_moveMiddles_73 : decode cX0_moveMiddles 73 = .ok (.aload_n 0, 1) := by decide +kernel
theorem dX0_moveMiddles_74 : decode cX0_moveMiddles 74 = .ok (.getfield 13, 3) := by decide +kernel
theorem dX0_moveMiddles_77 : decode cX0_moveMiddles 77 = .ok (.iload_n 1, 1) := by decide +kernel
theorem dX0_moveMiddles_78 : decode cX0_moveMiddles 78 = .ok (.iaload, 1) := by decide +kernel
theorem dX0_moveMiddles_79 : decode cX0_moveMiddles 79 = .ok (.iadd, 1) := by decide +kernel
theorem dX0_moveMiddles_80 : decode cX0_moveMiddles 80 = .ok (.iastore, 1) := by decide +kernel
theorem dX0_moveMiddles_81 : decode cX0_moveMiddles 81 = .ok (.aload_n 0, 1) := by decide +kernel
theorem dX0_moveMiddles_82 : decode cX0_moveMiddles 82 = .ok (.getfield 44, 3) := by decide +kernel
theorem dX0_moveMiddles_85 : decode cX0_moveMiddles 85 = .ok (.iload_n 2, 1) := by decide +kernel
theorem dX0_moveMiddles_86 : decode cX0_moveMiddles 86 = .ok (.dup2, 1) := by decide +kernel
theorem dX0_moveMiddles_87 : decode cX0_moveMiddles 87 = .ok (.iaload, 1) := by decide +kernel
theorem dX0_moveMiddles_88 : decode cX0_moveMiddles 88 = .ok (.iconst 1, 1) := by decide +kernel
theorem dX0_moveMiddles_89 : decode cX0_moveMiddles 89 = .ok (.iadd, 1) := by decide +kernel
theorem dX0_moveMiddles_90 : decode cX0_moveMiddles 90 = .ok (.iastore, 1) := by decide +kernel
theorem dX0_moveMiddles_91 : decode cX0_moveMiddles 91 = .ok (.iinc 1 1, 3) := by decide +kernel
theorem dX0_moveMiddles_94 : decode cX0_moveMiddles 94 = .ok (.goto (-58), 3) := by decide +kernel
theorem dX0_moveMiddles_97 : decode cX0_moveMiddles 97 = .ok (.iconst 0, 1) := by decide +kernel
theorem dX0_moveMiddles_98 : decode cX0_moveMiddles 98 = .ok (.istore_n 1, 1) := by decide +kernel
theorem dX0_moveMiddles_99 : decode cX0_moveMiddles 99 = .ok (.iload_n 1, 1) := by decide +kernel
theorem dX0_moveMiddles_100 : decode cX0_moveMiddles 100 = .ok (.aload_n 0, 1) := by decide +kernel
theorem dX0_moveMiddles_101 : decode cX0_moveMiddles 101 = .ok (.getfield 47, 3) := by decide +kernel
theorem dX0_moveMiddles_104 : decode cX0_moveMiddles 104 = .ok (.if_icmp .ge 150, 3) := by decide +kernel
theorem dX0_moveMiddles_107 : decode cX0_moveMiddles 107 = .ok (.aload_n 0, 1) := by decide +kernel
theorem dX0_moveMiddles_108 : decode cX0_moveMiddles 108 = .ok (.getfield 31, 3) := by decide +kernel
theorem dX0_moveMiddles_111 : decode cX0_moveMiddles 111 = .ok (.iload_n 1, 1) := by decide +kernel
theorem dX0_moveMiddles_112 : decode cX0_moveMiddles 112 = .ok (.iconst 0, 1) := by decide +kernel
theorem dX0_moveMiddles_113 : decode cX0_moveMiddles 113 = .ok (.bastore, 1) := by decide +kernel
theorem dX0_moveMiddles_114 : decode cX0_moveMiddles 114 = .ok (.aload_n 0, 1) := by decide +kernel
theorem dX0_moveMiddles_115 : decode cX0_moveMiddles 115 = .ok (.getfield 44, 3) := by decide +kernel
theorem dX0_moveMiddles_118 : decode cX0_moveMiddles 118 = .ok (.iload_n 1, 1) := by decide +kernel
theorem dX0_moveMiddles_119 : decode cX0_moveMiddles 119 = .ok (.iaload, 1) := by decide +kernel
theorem dX0_moveMiddles_120 : decode cX0_moveMiddles 120 = .ok (.ifCond .le 128, 3) := by decide +kernel
theorem dX0_moveMiddles_123 : decode cX0_moveMiddles 123 = .ok (.aload_n 0, 1) := by decide +kernel
theorem dX0_moveMiddles_124 : decode cX0_moveMiddles 124 = .ok (.getfield 38, 3) := by decide +kernel
theorem dX0_moveMiddles_127 : decode cX0_moveMiddles 127 = .ok (.iload_n 1, 1) := by decide +kernel
theorem dX0_moveMiddles_128 : decode cX0_moveMiddles 128 = .ok (.iaload, 1) := by decide +kernel
theorem dX0_moveMiddles_129 : decode cX0_moveMiddles 129 = .ok (.aload_n 0, 1) := by decide +kernel
theorem dX0_moveMiddles_130 : decode cX0_moveMiddles 130 = .ok (.getfield 28, 3) := by decide +kernel
theorem dX0_moveMiddles_133 : decode cX0_moveMiddles 133 = .ok (.iload_n 1, 1) := by decide +kernel
theorem dX0_moveMiddles_134 : decode cX0_moveMiddles 134 = .ok (.iaload, 1) := by decide +kernel
theorem dX0_moveMiddles_135 : decode cX0_moveMiddles 135 = .ok (.imul, 1) := by decide +kernel
theorem dX0_moveMiddles_136 : decode cX0_moveMiddles 136 = .ok (.aload_n 0, 1) := by decide +kernel
theorem dX0_moveMiddles_137 : decode cX0_moveMiddles 137 = .ok (.getfield 22, 3) := by decide +kernel
theorem dX0_moveMiddles_140 : decode cX0_moveMiddles 140 = .ok (.iload_n 1, 1) := by decide +kernel
theorem dX0_moveMiddles_141 : decode cX0_moveMiddles 141 = .ok (.iaload, 1) := by decide +kernel
theorem dX0_moveMiddles_142 : decode cX0_moveMiddles 142 = .ok (.aload_n 0, 1) := by decide +kernel
theorem dX0_moveMiddles_143 : decode cX0_moveMiddles 143 = .ok (.getfield 44, 3) := by decide +kernel
theorem dX0_moveMiddles_146 : decode cX0_moveMiddles 146 = .ok (.iload_n 1, 1) := by decide +kernel
theorem dX0_moveMiddles_147 : decode cX0_moveMiddles 147 = .ok (.iaload, 1) := by decide +kernel
theorem dX0_moveMiddles_148 : decode cX0_moveMiddles 148 = .ok (.imul, 1) := by decide +kernel
theorem dX0_moveMiddles_149 : decode cX0_moveMiddles 149 = .ok (.if_icmp .ne 7, 3) := by decide +kernel
theorem dX0_moveMiddles_152 : decode cX0_moveMiddles 152 = .ok (.iconst 1, 1) := by decide +kernel
theorem dX0_moveMiddles_153 : decode cX0_moveMiddles 153 = .ok (.goto 4, 3) := by decide +kernel
theorem dX0_moveMiddles_156 : decode cX0_moveMiddles 156 = .ok (.iconst 0, 1) := by decide +kernel
theorem dX0_moveMiddles_157 : decode cX0_moveMiddles 157 = .ok (.istore_n 2, 1) := by decide +kernel
theorem dX0_moveMiddles_158 : decode cX0_moveMiddles 158 = .ok (.aload_n 0, 1) := by decide +kernel
theorem dX0_moveMiddles_159 : decode cX0_moveMiddles 159 = .ok (.getfield 41, 3) := by decide +kernel
theorem dX0_moveMiddles_162 : decode cX0_moveMiddles 162 = .ok (.iload_n 1, 1) := by decide +kernel
theorem dX0_moveMiddles_163 : decode cX0_moveMiddles 163 = .ok (.iaload, 1) := by decide +kernel
theorem dX0_moveMiddles_164 : decode cX0_moveMiddles 164 = .ok (.aload_n 0, 1) := by decide +kernel
theorem dX0_moveMiddles_165 : decode cX0_moveMiddles 165 = .ok (.getfield 28, 3) := by decide +kernel
theorem dX0_moveMiddles_168 : decode cX0_moveMiddles 168 = .ok (.iload_n 1, 1) := by decide +kernel
theorem dX0_moveMiddles_169 : decode cX0_moveMiddles 169 = .ok (.iaload, 1) := by decide +kernel
theorem dX0_moveMiddles_170 : decode cX0_moveMiddles 170 = .ok (.imul, 1) := by decide +kernel
theorem dX0_moveMiddles_171 : decode cX0_moveMiddles 171 = .ok (.aload_n 0, 1) := by decide +kernel
theorem dX0_moveMiddles_172 : decode cX0_moveMiddles 172 = .ok (.getfield 25, 3) := by decide +kernel
theorem dX0_moveMiddles_175 : decode cX0_moveMiddles 175 = .ok (.iload_n 1, 1) := by decide +kernel
theorem dX0_moveMiddles_176 : decode cX0_moveMiddles 176 = .ok (.iaload, 1) := by decide +kernel
theorem dX0_moveMiddles_177 : decode cX0_moveMiddles 177 = .ok (.aload_n 0, 1) := by decide +kernel
theorem dX0_moveMiddles_178 : decode cX0_moveMiddles 178 = .ok (.getfield 44, 3) := by decide +kernel
theorem dX0_moveMiddles_181 : decode cX0_moveMiddles 181 = .ok (.iload_n 1, 1) := by decide +kernel
theorem dX0_moveMiddles_182 : decode cX0_moveMiddles 182 = .ok (.iaload, 1) := by decide +kernel
theorem dX0_moveMiddles_183 : decode cX0_moveMiddles 183 = .ok (.imul, 1) := by decide +kernel
theorem dX0_moveMiddles_184 : decode cX0_moveMiddles 184 = .ok (.if_icmp .ne 7, 3) := by decide +kernel
theorem dX0_moveMiddles_187 : decode cX0_moveMiddles 187 = .ok (.iconst 1, 1) := by decide +kernel
theorem dX0_moveMiddles_188 : decode cX0_moveMiddles 188 = .ok (.goto 4, 3) := by decide +kernel
theorem dX0_moveMiddles_191 : decode cX0_moveMiddles 191 = .ok (.iconst 0, 1) := by decide +kernel
theorem dX0_moveMiddles_192 : decode cX0_moveMiddles 192 = .ok (.istore_n 3, 1) := by decide +kernel
theorem dX0_moveMiddles_193 : decode cX0_moveMiddles 193 = .ok (.aload_n 0, 1) := by decide +kernel
theorem dX0_moveMiddles_194 : decode cX0_moveMiddles 194 = .ok (.getfield 31, 3) := by decide +kernel
theorem dX0_moveMiddles_197 : decode cX0_moveMiddles 197 = .ok (.iload_n 1, 1) := by decide +kernel
theorem dX0_moveMiddles_198 : decode cX0_moveMiddles 198 = .ok (.iload_n 2, 1) := by decide +kernel
theorem dX0_moveMiddles_199 : decode cX0_moveMiddles 199 = .ok (.ifCond .eq 7, 3) := by decide +kernel
theorem dX0_moveMiddles_202 : decode cX0_moveMiddles 202 = .ok (.iload_n 3, 1) := by decide +kernel
theorem dX0_moveMiddles_203 : decode cX0_moveMiddles 203 = .ok (.ifCond .ne 7, 3) := by decide +kernel
theorem dX0_moveMiddles_206 : decode cX0_moveMiddles 206 = .ok (.iconst 1, 1) := by decide +kernel
theorem dX0_moveMiddles_207 : decode cX0_moveMiddles 207 = .ok (.goto 4, 3) := by decide +kernel
theorem dX0_moveMiddles_210 : decode cX0_moveMiddles 210 = .ok (.iconst 0, 1) := by decide +kernel
theorem dX0_moveMiddles_211 : decode cX0_moveMiddles 211 = .ok (.bastore, 1) := by decide +kernel
theorem dX0_moveMiddles_212 : decode cX0_moveMiddles 212 = .ok (.aload_n 0, 1) := by decide +kernel
theorem dX0_moveMiddles_213 : decode cX0_moveMiddles 213 = .ok (.getfield 22, 3) := by decide +kernel
theorem dX0_moveMiddles_216 : decode cX0_moveMiddles 216 = .ok (.iload_n 1, 1) := by decide +kernel
theorem dX0_moveMiddles_217 : decode cX0_moveMiddles 217 = .ok (.aload_n 0, 1) := by decide +kernel
theorem dX0_moveMiddles_218 : decode cX0_moveMiddles 218 = .ok (.getfield 38, 3) := by decide +kernel
theorem dX0_moveMiddles_221 : decode cX0_moveMiddles 221 = .ok (.iload_n 1, 1) := by decide +kernel
theorem dX0_moveMiddles_222 : decode cX0_moveMiddles 222 = .ok (.iaload, 1) := by decide +kernel
theorem dX0_moveMiddles_223 : decode cX0_moveMiddles 223 = .ok (.iastore, 1) := by decide +kernel
theorem dX0_moveMiddles_224 : decode cX0_moveMiddles 224 = .ok (.aload_n 0, 1) := by decide +kernel
theorem dX0_moveMiddles_225 : decode cX0_moveMiddles 225 = .ok (.getfield 25, 3) := by decide +kernel
theorem dX0_moveMiddles_228 : decode cX0_moveMiddles 228 = .ok (.iload_n 1, 1) := by decide +kernel
theorem dX0_moveMiddles_229 : decode cX0_moveMiddles 229 = .ok (.aload_n 0, 1) := by decide +kernel
theorem dX0_moveMiddles_230 : decode cX0_moveMiddles 230 = .ok (.getfield 41, 3) := by decide +kernel
theorem dX0_moveMiddles_233 : decode cX0_moveMiddles 233 = .ok (.iload_n 1, 1) := by decide +kernel
theorem dX0_moveMiddles_234 : decode cX0_moveMiddles 234 = .ok (.iaload, 1) := by decide +kernel
theorem dX0_moveMiddles_235 : decode cX0_moveMiddles 235 = .ok (.iastore, 1) := by decide +kernel
theorem dX0_moveMiddles_236 : decode cX0_moveMiddles 236 = .ok (.aload_n 0, 1) := by decide +kernel
theorem dX0_moveMiddles_237 : decode cX0_moveMiddles 237 = .ok (.getfield 28, 3) := by decide +kernel
theorem dX0_moveMiddles_240 : decode cX0_moveMiddles 240 = .ok (.iload_n 1, 1) := by decide +kernel
theorem dX0_moveMiddles_241 : decode cX0_moveMiddles 241 = .ok (.aload_n 0, 1) := by decide +kernel
theorem dX0_moveMiddles_242 : decode cX0_moveMiddles 242 = .ok (.getfield 44, 3) := by decide +kernel
theorem dX0_moveMiddles_245 : decode cX0_moveMiddles 245 = .ok (.iload_n 1, 1) := by decide +kernel
theorem dX0_moveMiddles_246 : decode cX0_moveMiddles 246 = .ok (.iaload, 1) := by decide +kernel
theorem dX0_moveMiddles_247 : decode cX0_moveMiddles 247 = .ok (.iastore, 1) := by decide +kernel
theorem dX0_moveMiddles_248 : decode cX0_moveMiddles 248 = .ok (.iinc 1 1, 3) := by decide +kernel
theorem dX0_moveMiddles_251 : decode cX0_moveMiddles 251 = .ok (.goto (-152), 3) := by decide +kernel
theorem dX0_moveMiddles_254 : decode cX0_moveMiddles 254 = .ok (.return_, 1) := by decide +kernel
theorem dX0_settle_0 : decode cX0_settle 0 = .ok (.aload_n 0, 1) := by decide +kernel
theorem dX0_settle_1 : decode cX0_settle 1 = .ok (.invokevirtual 51, 3) := by decide +kernel
theorem dX0_settle_4 : decode cX0_settle 4 = .ok (.iconst 1, 1) := by decide +kernel
theorem dX0_settle_5 : decode cX0_settle 5 = .ok (.istore_n 1, 1) := by decide +kernel
theorem dX0_settle_6 : decode cX0_settle 6 = .ok (.iload_n 1, 1) := by decide +kernel
theorem dX0_settle_7 : decode cX0_settle 7 = .ok (.bipush 40, 2) := by decide +kernel
theorem dX0_settle_9 : decode cX0_settle 9 = .ok (.if_icmp .gt 20, 3) := by decide +kernel
theorem dX0_settle_12 : decode cX0_settle 12 = .ok (.aload_n 0, 1) := by decide +kernel
theorem dX0_settle_13 : decode cX0_settle 13 = .ok (.invokevirtual 68, 3) := by decide +kernel
theorem dX0_settle_16 : decode cX0_settle 16 = .ok (.istore_n 2, 1) := by decide +kernel
theorem dX0_settle_17 : decode cX0_settle 17 = .ok (.iload_n 2, 1) := by decide +kernel
theorem dX0_settle_18 : decode cX0_settle 18 = .ok (.ifCond .ne 5, 3) := by decide +kernel
theorem dX0_settle_21 : decode cX0_settle 21 = .ok (.iload_n 1, 1) := by decide +kernel
theorem dX0_settle_22 : decode cX0_settle 22 = .ok (.ireturn, 1) := by decide +kernel
theorem dX0_settle_23 : decode cX0_settle 23 = .ok (.iinc 1 1, 3) := by decide +kernel
theorem dX0_settle_26 : decode cX0_settle 26 = .ok (.goto (-20), 3) := by decide +kernel
theorem dX0_settle_29 : decode cX0_settle 29 = .ok (.bipush 40, 2) := by decide +kernel
theorem dX0_settle_31 : decode cX0_settle 31 = .ok (.ireturn, 1) := by decide +kernel
theorem dX0_group_0 : decode cX0_group 0 = .ok (.iload_n 1, 1) := by decide +kernel
theorem dX0_group_1 : decode cX0_group 1 = .ok (.ifCond .lt 11, 3) := by decide +kernel
theorem dX0_group_4 : decode cX0_group 4 = .ok (.iload_n 1, 1) := by decide +kernel
theorem dX0_group_5 : decode cX0_group 5 = .ok (.aload_n 0, 1) := by decide +kernel
theorem dX0_group_6 : decode cX0_group 6 = .ok (.getfield 58, 3) := by decide +kernel
theorem dX0_group_9 : decode cX0_group 9 = .ok (.if_icmp .lt 7, 3) := by decide +kernel
theorem dX0_group_12 : decode cX0_group 12 = .ok (.iconst (-1), 1) := by decide +kernel
theorem dX0_group_13 : decode cX0_group 13 = .ok (.goto 9, 3) := by decide +kernel
theorem dX0_group_16 : decode cX0_group 16 = .ok (.aload_n 0, 1) := by decide +kernel
theorem dX0_group_17 : decode cX0_group 17 = .ok (.getfield 35, 3) := by decide +kernel
theorem dX0_group_20 : decode cX0_group 20 = .ok (.iload_n 1, 1) := by decide +kernel
theorem dX0_group_21 : decode cX0_group 21 = .ok (.iaload, 1) := by decide +kernel
theorem dX0_group_22 : decode cX0_group 22 = .ok (.ireturn, 1) := by decide +kernel
theorem dX0_size_0 : decode cX0_size 0 = .ok (.iconst 0, 1) := by decide +kernel
theorem dX0_size_1 : decode cX0_size 1 = .ok (.istore_n 2, 1) := by decide +kernel
theorem dX0_size_2 : decode cX0_size 2 = .ok (.iconst 0, 1) := by decide +kernel
theorem dX0_size_3 : decode cX0_size 3 = .ok (.istore_n 3, 1) := by decide +kernel
theorem dX0_size_4 : decode cX0_size 4 = .ok (.iload_n 3, 1) := by decide +kernel
theorem dX0_size_5 : decode cX0_size 5 = .ok (.aload_n 0, 1) := by decide +kernel
theorem dX0_size_6 : decode cX0_size 6 = .ok (.getfield 58, 3) := by decide +kernel
theorem dX0_size_9 : decode cX0_size 9 = .ok (.if_icmp .ge 31, 3) := by decide +kernel
theorem dX0_size_12 : decode cX0_size 12 = .ok (.iload_n 2, 1) := by decide +kernel
theorem dX0_size_13 : decode cX0_size 13 = .ok (.iload_n 1, 1) := by decide +kernel
theorem dX0_size_14 : decode cX0_size 14 = .ok (.ifCond .lt 17, 3) := by decide +kernel
theorem dX0_size_17 : decode cX0_size 17 = .ok (.aload_n 0, 1) := by decide +kernel
theorem dX0_size_18 : decode cX0_size 18 = .ok (.getfield 35, 3) := by decide +kernel
theorem dX0_size_21 : decode cX0_size 21 = .ok (.iload_n 3, 1) := by decide +kernel
theorem dX0_size_22 : decode cX0_size 22 = .ok (.iaload, 1) := by decide +kernel
theorem dX0_size_23 : decode cX0_size 23 = .ok (.iload_n 1, 1) := by decide +kernel
theorem dX0_size_24 : decode cX0_size 24 = .ok (.if_icmp .ne 7, 3) := by decide +kernel
theorem dX0_size_27 : decode cX0_size 27 = .ok (.iconst 1, 1) := by decide +kernel
theorem dX0_size_28 : decode cX0_size 28 = .ok (.goto 4, 3) := by decide +kernel
theorem dX0_size_31 : decode cX0_size 31 = .ok (.iconst 0, 1) := by decide +kernel
theorem dX0_size_32 : decode cX0_size 32 = .ok (.iadd, 1) := by decide +kernel
theorem dX0_size_33 : decode cX0_size 33 = .ok (.istore_n 2, 1) := by decide +kernel
theorem dX0_size_34 : decode cX0_size 34 = .ok (.iinc 3 1, 3) := by decide +kernel
theorem dX0_size_37 : decode cX0_size 37 = .ok (.goto (-33), 3) := by decide +kernel
theorem dX0_size_40 : decode cX0_size 40 = .ok (.iload_n 2, 1) := by decide +kernel
theorem dX0_size_41 : decode cX0_size 41 = .ok (.ireturn, 1) := by decide +kernel
theorem dX0_sum_0 : decode cX0_sum 0 = .ok (.iconst 0, 1) := by decide +kernel
theorem dX0_sum_1 : decode cX0_sum 1 = .ok (.istore_n 3, 1) := by decide +kernel
theorem dX0_sum_2 : decode cX0_sum 2 = .ok (.iconst 0, 1) := by decide +kernel
theorem dX0_sum_3 : decode cX0_sum 3 = .ok (.istore 4, 2) := by decide +kernel
theorem dX0_sum_5 : decode cX0_sum 5 = .ok (.iload 4, 2) := by decide +kernel
theorem dX0_sum_7 : decode cX0_sum 7 = .ok (.aload_n 0, 1) := by decide +kernel
theorem dX0_sum_8 : decode cX0_sum 8 = .ok (.getfield 58, 3) := by decide +kernel
theorem dX0_sum_11 : decode cX0_sum 11 = .ok (.if_icmp .ge 96, 3) := by decide +kernel
theorem dX0_sum_14 : decode cX0_sum 14 = .ok (.iload_n 1, 1) := by decide +kernel
theorem dX0_sum_15 : decode cX0_sum 15 = .ok (.ifCond .lt 86, 3) := by decide +kernel
theorem dX0_sum_18 : decode cX0_sum 18 = .ok (.aload_n 0, 1) := by decide +kernel
theorem dX0_sum_19 : decode cX0_sum 19 = .ok (.getfield 35, 3) := by decide +kernel
theorem dX0_sum_22 : decode cX0_sum 22 = .ok (.iload 4, 2) := by decide +kernel
theorem dX0_sum_24 : decode cX0_sum 24 = .ok (.iaload, 1) := by decide +kernel
theorem dX0_sum_25 : decode cX0_sum 25 = .ok (.iload_n 1, 1) := by decide +kernel
theorem dX0_sum_26 : decode cX0_sum 26 = .ok (.if_icmp .ne 75, 3) := by decide +kernel
theorem dX0_sum_29 : decode cX0_sum 29 = .ok (.iload_n 3, 1) := by decide +kernel
theorem dX0_sum_30 : decode cX0_sum 30 = .ok (.iload_n 2, 1) := by decide +kernel
theorem dX0_sum_31 : decode cX0_sum 31 = .ok (.ifCond .ne 13, 3) := by decide +kernel
theorem dX0_sum_34 : decode cX0_sum 34 = .ok (.aload_n 0, 1) := by decide +kernel
theorem dX0_sum_35 : decode cX0_sum 35 = .ok (.getfield 7, 3) := by decide +kernel
theorem dX0_sum_38 : decode cX0_sum 38 = .ok (.iload 4, 2) := by decide +kernel
theorem dX0_sum_40 : decode cX0_sum 40 = .ok (.iaload, 1) := by decide +kernel
theorem dX0_sum_41 : decode cX0_sum 41 = .ok (.goto 58, 3) := by decide +kernel
theorem dX0_sum_44 : decode cX0_sum 44 = .ok (.iload_n 2, 1) := by decide +kernel
theorem dX0_sum_45 : decode cX0_sum 45 = .ok (.iconst 1, 1) := by decide +kernel
theorem dX0_sum_46 : decode cX0_sum 46 = .ok (.if_icmp .ne 13, 3) := by decide +kernel
theorem dX0_sum_49 : decode cX0_sum 49 = .ok (.aload_n 0, 1) := by decide +kernel
theorem dX0_sum_50 : decode cX0_sum 50 = .ok (.getfield 13, 3) := by decide +kernel
theorem dX0_sum_53 : decode cX0_sum 53 = .ok (.iload 4, 2) := by decide +kernel
theorem dX0_sum_55 : decode cX0_sum 55 = .ok (.iaload, 1) := by decide +kernel
theorem dX0_sum_56 : decode cX0_sum 56 = .ok (.goto 43, 3) := by decide +kernel
theorem dX0_sum_59 : decode cX0_sum 59 = .ok (.iload_n 2, 1) := by decide +kernel
theorem dX0_sum_60 : decode cX0_sum 60 = .ok (.iconst 2, 1) := by decide +kernel
theorem dX0_sum_61 : decode cX0_sum 61 = .ok (.if_icmp .ne 37, 3) := by decide +kernel
theorem dX0_sum_64 : decode cX0_sum 64 = .ok (.aload_n 0, 1) := by decide +kernel
theorem dX0_sum_65 : decode cX0_sum 65 = .ok (.getfield 7, 3) := by decide +kernel
theorem dX0_sum_68 : decode cX0_sum 68 = .ok (.iload 4, 2) := by decide +kernel
theorem dX0_sum_70 : decode cX0_sum 70 = .ok (.iaload, 1) := by decide +kernel
theorem dX0_sum_71 : decode cX0_sum 71 = .ok (.aload_n 0, 1) := by decide +kernel
theorem dX0_sum_72 : decode cX0_sum 72 = .ok (.getfield 7, 3) := by decide +kernel
theorem dX0_sum_75 : decode cX0_sum 75 = .ok (.iload 4, 2) := by decide +kernel
theorem dX0_sum_77 : decode cX0_sum 77 = .ok (.iaload, 1) := by decide +kernel
theorem dX0_sum_78 : decode cX0_sum 78 = .ok (.imul, 1) := by decide +kernel
theorem dX0_sum_79 : decode cX0_sum 79 = .ok (.aload_n 0, 1) := by decide +kernel
theorem dX0_sum_80 : decode cX0_sum 80 = .ok (.getfield 13, 3) := by decide +kernel
theorem dX0_sum_83 : decode cX0_sum 83 = .ok (.iload 4, 2) := by decide +kernel
theorem dX0_sum_85 : decode cX0_sum 85 = .ok (.iaload, 1) := by decide +kernel
theorem dX0_sum_86 : decode cX0_sum 86 = .ok (.aload_n 0, 1) := by decide +kernel
theorem dX0_sum_87 : decode cX0_sum 87 = .ok (.getfield 13, 3) := by decide +kernel
theorem dX0_sum_90 : decode cX0_sum 90 = .ok (.iload 4, 2) := by decide +kernel
theorem dX0_sum_92 : decode cX0_sum 92 = .ok (.iaload, 1) := by decide +kernel
theorem dX0_sum_93 : decode cX0_sum 93 = .ok (.imul, 1) := by decide +kernel
theorem dX0_sum_94 : decode cX0_sum 94 = .ok (.iadd, 1) := by decide +kernel
theorem dX0_sum_95 : decode cX0_sum 95 = .ok (.goto 4, 3) := by decide +kernel
theorem dX0_sum_98 : decode cX0_sum 98 = .ok (.iconst 0, 1) := by decide +kernel
theorem dX0_sum_99 : decode cX0_sum 99 = .ok (.iadd, 1) := by decide +kernel
theorem dX0_sum_100 : decode cX0_sum 100 = .ok (.istore_n 3, 1) := by decide +kernel
theorem dX0_sum_101 : decode cX0_sum 101 = .ok (.iinc 4 1, 3) := by decide +kernel
theorem dX0_sum_104 : decode cX0_sum 104 = .ok (.goto (-99), 3) := by decide +kernel
theorem dX0_sum_107 : decode cX0_sum 107 = .ok (.iload_n 3, 1) := by decide +kernel
theorem dX0_sum_108 : decode cX0_sum 108 = .ok (.ireturn, 1) := by decide +kernel
theorem dX0_near_0 : decode cX0_near 0 = .ok (.iload_n 1, 1) := by decide +kernel
theorem dX0_near_1 : decode cX0_near 1 = .ok (.ifCond .lt 11, 3) := by decide +kernel
theorem dX0_near_4 : decode cX0_near 4 = .ok (.iload_n 1, 1) := by decide +kernel
theorem dX0_near_5 : decode cX0_near 5 = .ok (.aload_n 0, 1) := by decide +kernel
theorem dX0_near_6 : decode cX0_near 6 = .ok (.getfield 47, 3) := by decide +kernel
theorem dX0_near_9 : decode cX0_near 9 = .ok (.if_icmp .lt 5, 3) := by decide +kernel
theorem dX0_near_12 : decode cX0_near 12 = .ok (.iconst (-1), 1) := by decide +kernel
theorem dX0_near_13 : decode cX0_near 13 = .ok (.ireturn, 1) := by decide +kernel
theorem dX0_near_14 : decode cX0_near 14 = .ok (.iconst 0, 1) := by decide +kernel
theorem dX0_near_15 : decode cX0_near 15 = .ok (.istore_n 2, 1) := by decide +kernel
theorem dX0_near_16 : decode cX0_near 16 = .ok (.iconst 0, 1) := by decide +kernel
theorem dX0_near_17 : decode cX0_near 17 = .ok (.istore_n 3, 1) := by decide +kernel
theorem dX0_near_18 : decode cX0_near 18 = .ok (.iload_n 3, 1) := by decide +kernel
theorem dX0_near_19 : decode cX0_near 19 = .ok (.aload_n 0, 1) := by decide +kernel
theorem dX0_near_20 : decode cX0_near 20 = .ok (.getfield 58, 3) := by decide +kernel
theorem dX0_near_23 : decode cX0_near 23 = .ok (.if_icmp .ge 26, 3) := by decide +kernel
theorem dX0_near_26 : decode cX0_near 26 = .ok (.iload_n 2, 1) := by decide +kernel
theorem dX0_near_27 : decode cX0_near 27 = .ok (.aload_n 0, 1) := by decide +kernel
theorem dX0_near_28 : decode cX0_near 28 = .ok (.iload_n 3, 1) := by decide +kernel
theorem dX0_near_29 : decode cX0_near 29 = .ok (.iload_n 1, 1) := by decide +kernel
theorem dX0_near_30 : decode cX0_near 30 = .ok (.invokevirtual 72, 3) := by decide +kernel
theorem dX0_near_33 : decode cX0_near 33 = .ok (.ifCond .eq 7, 3) := by decide +kernel
theorem dX0_near_36 : decode cX0_near 36 = .ok (.iconst 1, 1) := by decide +kernel
theorem dX0_near_37 : decode cX0_near 37 = .ok (.goto 4, 3) := by decide +kernel
theorem dX0_near_40 : decode cX0_near 40 = .ok (.iconst 0, 1) := by decide +kernel
theorem dX0_near_41 : decode cX0_near 41 = .ok (.iadd, 1) := by decide +kernel
theorem dX0_near_42 : decode cX0_near 42 = .ok (.istore_n 2, 1) := by decide +kernel
theorem dX0_near_43 : decode cX0_near 43 = .ok (.iinc 3 1, 3) := by decide +kernel
theorem dX0_near_46 : decode cX0_near 46 = .ok (.goto (-28), 3) := by decide +kernel
theorem dX0_near_49 : decode cX0_near 49 = .ok (.iload_n 2, 1) := by decide +kernel
theorem dX0_near_50 : decode cX0_near 50 = .ok (.ireturn, 1) := by decide +kernel
theorem dX0_isNearest_0 : decode cX0_isNearest 0 = .ok (.aload_n 0, 1) := by decide +kernel
theorem dX0_isNearest_1 : decode cX0_isNearest 1 = .ok (.iload_n 1, 1) := by decide +kernel
theorem dX0_isNearest_2 : decode cX0_isNearest 2 = .ok (.iload_n 2, 1) := by decide +kernel
theorem dX0_isNearest_3 : decode cX0_isNearest 3 = .ok (.invokevirtual 83, 3) := by decide +kernel
theorem dX0_isNearest_6 : decode cX0_isNearest 6 = .ok (.aload_n 0, 1) := by decide +kernel
theorem dX0_isNearest_7 : decode cX0_isNearest 7 = .ok (.getfield 76, 3) := by decide +kernel
theorem dX0_isNearest_10 : decode cX0_isNearest 10 = .ok (.lstore_n 3, 1) := by decide +kernel
theorem dX0_isNearest_11 : decode cX0_isNearest 11 = .ok (.aload_n 0, 1) := by decide +kernel
theorem dX0_isNearest_12 : decode cX0_isNearest 12 = .ok (.getfield 80, 3) := by decide +kernel
theorem dX0_isNearest_15 : decode cX0_isNearest 15 = .ok (.lstore 5, 2) := by decide +kernel
theorem dX0_isNearest_17 : decode cX0_isNearest 17 = .ok (.iconst 0, 1) := by decide +kernel
theorem dX0_isNearest_18 : decode cX0_isNearest 18 = .ok (.istore 7, 2) := by decide +kernel
theorem dX0_isNearest_20 : decode cX0_isNearest 20 = .ok (.iload 7, 2) := by decide +kernel
theorem dX0_isNearest_22 : decode cX0_isNearest 22 = .ok (.aload_n 0, 1) := by decide +kernel
theorem dX0_isNearest_23 : decode cX0_isNearest 23 = .ok (.getfield 47, 3) := by decide +kernel
theorem dX0_isNearest_26 : decode cX0_isNearest 26 = .ok (.if_icmp .ge 35, 3) := by decide +kernel
theorem dX0_isNearest_29 : decode cX0_isNearest 29 = .ok (.aload_n 0, 1) := by decide +kernel
theorem dX0_isNearest_30 : decode cX0_isNearest 30 = .ok (.iload_n 1, 1) := by decide +kernel
theorem dX0_isNearest_31 : decode cX0_isNearest 31 = .ok (.iload 7, 2) := by decide +kernel
theorem dX0_isNearest_33 : decode cX0_isNearest 33 = .ok (.invokevirtual 83, 3) := by decide +kernel
theorem dX0_isNearest_36 : decode cX0_isNearest 36 = .ok (.aload_n 0, 1) := by decide +kernel
theorem dX0_isNearest_37 : decode cX0_isNearest 37 = .ok (.getfield 76, 3) := by decide +kernel
theorem dX0_isNearest_40 : decode cX0_isNearest 40 = .ok (.lload 5, 2) := by decide +kernel
theorem dX0_isNearest_42 : decode cX0_isNearest 42 = .ok (.lmul, 1) := by decide +kernel
theorem dX0_isNearest_43 : decode cX0_isNearest 43 = .ok (.lload_n 3, 1) := by decide +kernel
theorem dX0_isNearest_44 : decode cX0_isNearest 44 = .ok (.aload_n 0, 1) := by decide +kernel
theorem dX0_isNearest_45 : decode cX0_isNearest 45 = .ok (.getfield 80, 3) := by decide +kernel
theorem dX0_isNearest_48 : decode cX0_isNearest 48 = .ok (.lmul, 1) := by decide +kernel
theorem dX0_isNearest_49 : decode cX0_isNearest 49 = .ok (.lcmp, 1) := by decide +kernel
theorem dX0_isNearest_50 : decode cX0_isNearest 50 = .ok (.ifCond .ge 5, 3) := by decide +kernel
theorem dX0_isNearest_53 : decode cX0_isNearest 53 = .ok (.iconst 0, 1) := by decide +kernel
theorem dX0_isNearest_54 : decode cX0_isNearest 54 = .ok (.ireturn, 1) := by decide +kernel
theorem dX0_isNearest_55 : decode cX0_isNearest 55 = .ok (.iinc 7 1, 3) := by decide +kernel
theorem dX0_isNearest_58 : decode cX0_isNearest 58 = .ok (.goto (-38), 3) := by decide +kernel
theorem dX0_isNearest_61 : decode cX0_isNearest 61 = .ok (.iconst 1, 1) := by decide +kernel
theorem dX0_isNearest_62 : decode cX0_isNearest 62 = .ok (.ireturn, 1) := by decide +kernel
end
section
/-! MeanGroupsModel -/
set_option maxRecDepth 100000
def RX1 : String := "MeanGroupsModel"
def TX1 : u_T := fun k => match k with
  | 0 => ("MeanGroupsModel", "points", "I", false)
  | 1 => ("MeanGroupsModel", "xs", "[I", true)
  | 2 => ("MeanGroupsModel", "ys", "[I", true)
  | 3 => ("MeanGroupsModel", "groups", "[I", true)
  | 4 => ("MeanGroupsModel", "k", "I", false)
  | 5 => ("MeanGroupsModel", "seedX", "[I", true)
  | 6 => ("MeanGroupsModel", "seedY", "[I", true)
  | 7 => ("MeanGroupsModel", "sumX", "[I", true)
  | 8 => ("MeanGroupsModel", "sumY", "[I", true)
  | _ => ("MeanGroupsModel", "parts", "[I", true)
def tyX1 : Nat → FieldType := fun k => match k with
  | 0 => .int
  | 1 => .array .int
  | 2 => .array .int
  | 3 => .array .int
  | 4 => .int
  | 5 => .array .int
  | 6 => .array .int
  | 7 => .array .int
  | 8 => .array .int
  | _ => .array .int
abbrev wsX10 : List Cond := u_ws RX1 TX1 10
theorem nmX1 : ∀ a, a < 10 → ∀ b, b < 10 → a ≠ b → (TX1 a).2.1 ≠ (TX1 b).2.1 := by decide +kernel
theorem tyX1_ok : ∀ k, k < 10 → parseFieldDescriptor (TX1 k).2.2.1 = some (tyX1 k) := by decide +kernel
abbrev cX1_init : ByteArray := prog_3_method_1_code
def yX1_init : MethodName := ⟨RX1, "<init>", "()V"⟩
abbrev cX1_reset : ByteArray := prog_3_method_7_code
def yX1_reset : MethodName := ⟨RX1, "reset", "()V"⟩
abbrev cX1_add : ByteArray := prog_3_method_3_code
def yX1_add : MethodName := ⟨RX1, "add", "(II)I"⟩
abbrev cX1_bad : ByteArray := prog_3_method_2_code
def yX1_bad : MethodName := ⟨RX1, "bad", "(I)Z"⟩
abbrev cX1_drop : ByteArray := prog_3_method_4_code
def yX1_drop : MethodName := ⟨RX1, "drop", "(I)I"⟩
abbrev cX1_seed : ByteArray := prog_3_method_5_code
def yX1_seed : MethodName := ⟨RX1, "seed", "(III)I"⟩
abbrev cX1_groups : ByteArray := prog_3_method_6_code
def yX1_groups : MethodName := ⟨RX1, "groups", "(I)V"⟩
abbrev cX1_round : ByteArray := prog_3_method_11_code
def yX1_round : MethodName := ⟨RX1, "round", "()I"⟩
abbrev cX1_nearest : ByteArray := prog_3_method_10_code
def yX1_nearest : MethodName := ⟨RX1, "nearest", "(I)I"⟩
abbrev cX1_nearer : ByteArray := prog_3_method_8_code
def yX1_nearer : MethodName := ⟨RX1, "nearer", "(III)Z"⟩
abbrev cX1_far : ByteArray := prog_3_method_9_code
def yX1_far : MethodName := ⟨RX1, "far", "(II)J"⟩
abbrev cX1_size : ByteArray := prog_3_method_14_code
def yX1_size : MethodName := ⟨RX1, "size", "(I)I"⟩
abbrev cX1_sum : ByteArray := prog_3_method_15_code
def yX1_sum : MethodName := ⟨RX1, "sum", "(II)I"⟩
abbrev cX1_settle : ByteArray := prog_3_method_12_code
def yX1_settle : MethodName := ⟨RX1, "settle", "()I"⟩
abbrev cX1_group : ByteArray := prog_3_method_13_code
def yX1_group : MethodName := ⟨RX1, "group", "(I)I"⟩
abbrev cX1_near : ByteArray := prog_3_method_16_code
def yX1_near : MethodName := ⟨RX1, "near", "(I)I"⟩
theorem q11 : (Jvm.Cond.initialized "MeanGroupsModel") ∈ lw_all := lw_g (lw_at lw_m0 2 rfl) rfl
theorem q146 : (Jvm.Cond.instantiable "MeanGroupsModel" (10 : Nat)) ∈ lw_all := lw_g (lw_at lw_m0 137 rfl) rfl
theorem q148 : (Jvm.Cond.instanceMethod ({ cls := "MeanGroupsModel", name := "<init>", desc := "()V" } : Jvm.MethodName)) ∈ lw_all := lw_g (lw_at lw_m0 139 rfl) rfl
theorem q149 : (Jvm.Cond.code ({ cls := "MeanGroupsModel", name := "<init>", desc := "()V" } : Jvm.MethodName) prog_3_method_1_code (1 : Nat) (Option.none : Option Jvm.ClassFile.FieldType)) ∈ lw_all := lw_g (lw_at lw_m0 140 rfl) rfl
theorem q150 : (Jvm.Cond.methodLink "MeanGroupsModel" (1 : Nat) ({ cls := "java/lang/Object", name := "<init>", desc := "()V" } : Jvm.MethodName)) ∈ lw_all := lw_g (lw_at lw_m0 141 rfl) rfl
theorem q151 : (Jvm.Cond.methodLink "MeanGroupsModel" (38 : Nat) ({ cls := "MeanGroupsModel", name := "reset", desc := "()V" } : Jvm.MethodName)) ∈ lw_all := lw_g (lw_at lw_m0 142 rfl) rfl
theorem q152 : (Jvm.Cond.instanceMethod ({ cls := "MeanGroupsModel", name := "reset", desc := "()V" } : Jvm.MethodName)) ∈ lw_all := lw_g (lw_at lw_m0 143 rfl) rfl
theorem q153 : (Jvm.Cond.selects "MeanGroupsModel" ({ cls := "MeanGroupsModel", name := "reset", desc := "()V" } : Jvm.MethodName) ({ cls := "MeanGroupsModel", name := "reset", desc := "()V" } : Jvm.MethodName)) ∈ lw_all := lw_g (lw_at lw_m0 144 rfl) rfl
theorem q154 : (Jvm.Cond.code ({ cls := "MeanGroupsModel", name := "reset", desc := "()V" } : Jvm.MethodName) prog_3_method_7_code (2 : Nat) (Option.none : Option Jvm.ClassFile.FieldType)) ∈ lw_all := lw_g (lw_at lw_m0 145 rfl) rfl
theorem q155 : (Jvm.Cond.fieldLink "MeanGroupsModel" (45 : Nat) "MeanGroupsModel" "points" "I") ∈ lw_all := lw_g (lw_at lw_m0 146 rfl) rfl
theorem q156 : (Jvm.Cond.fieldLink "MeanGroupsModel" (7 : Nat) "MeanGroupsModel" "xs" "[I") ∈ lw_all := lw_g (lw_at lw_m0 147 rfl) rfl
theorem q157 : (Jvm.Cond.fieldLink "MeanGroupsModel" (13 : Nat) "MeanGroupsModel" "ys" "[I") ∈ lw_all := lw_g (lw_at lw_m0 148 rfl) rfl
theorem q158 : (Jvm.Cond.fieldLink "MeanGroupsModel" (16 : Nat) "MeanGroupsModel" "groups" "[I") ∈ lw_all := lw_g (lw_at lw_m0 149 rfl) rfl
theorem q159 : (Jvm.Cond.fieldLink "MeanGroupsModel" (19 : Nat) "MeanGroupsModel" "k" "I") ∈ lw_all := lw_g (lw_at lw_m0 150 rfl) rfl
theorem q160 : (Jvm.Cond.fieldLink "MeanGroupsModel" (23 : Nat) "MeanGroupsModel" "seedX" "[I") ∈ lw_all := lw_g (lw_at lw_m0 151 rfl) rfl
theorem q161 : (Jvm.Cond.fieldLink "MeanGroupsModel" (26 : Nat) "MeanGroupsModel" "seedY" "[I") ∈ lw_all := lw_g (lw_at lw_m0 152 rfl) rfl
theorem q162 : (Jvm.Cond.fieldLink "MeanGroupsModel" (29 : Nat) "MeanGroupsModel" "sumX" "[I") ∈ lw_all := lw_g (lw_at lw_m0 153 rfl) rfl
theorem q163 : (Jvm.Cond.fieldLink "MeanGroupsModel" (32 : Nat) "MeanGroupsModel" "sumY" "[I") ∈ lw_all := lw_g (lw_at lw_m0 154 rfl) rfl
theorem q164 : (Jvm.Cond.fieldLink "MeanGroupsModel" (35 : Nat) "MeanGroupsModel" "parts" "[I") ∈ lw_all := lw_g (lw_at lw_m0 155 rfl) rfl
theorem q165 : (Jvm.Cond.lays "MeanGroupsModel" "MeanGroupsModel" "points" "I") ∈ lw_all := lw_g (lw_at lw_m0 156 rfl) rfl
theorem q166 : (Jvm.Cond.soleField "MeanGroupsModel" "points") ∈ lw_all := lw_g (lw_at lw_m0 157 rfl) rfl
theorem q167 : (Jvm.Cond.laysFinal "MeanGroupsModel" "MeanGroupsModel" "xs" "[I") ∈ lw_all := lw_g (lw_at lw_m0 158 rfl) rfl
theorem q168 : (Jvm.Cond.soleField "MeanGroupsModel" "xs") ∈ lw_all := lw_g (lw_at lw_m0 159 rfl) rfl
theorem q169 : (Jvm.Cond.laysFinal "MeanGroupsModel" "MeanGroupsModel" "ys" "[I") ∈ lw_all := lw_g (lw_at lw_m0 160 rfl) rfl
theorem q170 : (Jvm.Cond.soleField "MeanGroupsModel" "ys") ∈ lw_all := lw_g (lw_at lw_m0 161 rfl) rfl
theorem q171 : (Jvm.Cond.laysFinal "MeanGroupsModel" "MeanGroupsModel" "groups" "[I") ∈ lw_all := lw_g (lw_at lw_m0 162 rfl) rfl
theorem q172 : (Jvm.Cond.soleField "MeanGroupsModel" "groups") ∈ lw_all := lw_g (lw_at lw_m0 163 rfl) rfl
theorem q173 : (Jvm.Cond.lays "MeanGroupsModel" "MeanGroupsModel" "k" "I") ∈ lw_all := lw_g (lw_at lw_m0 164 rfl) rfl
theorem q174 : (Jvm.Cond.soleField "MeanGroupsModel" "k") ∈ lw_all := lw_g (lw_at lw_m0 165 rfl) rfl
theorem q175 : (Jvm.Cond.laysFinal "MeanGroupsModel" "MeanGroupsModel" "seedX" "[I") ∈ lw_all := lw_g (lw_at lw_m0 166 rfl) rfl
theorem q176 : (Jvm.Cond.soleField "MeanGroupsModel" "seedX") ∈ lw_all := lw_g (lw_at lw_m0 167 rfl) rfl
theorem q177 : (Jvm.Cond.laysFinal "MeanGroupsModel" "MeanGroupsModel" "seedY" "[I") ∈ lw_all := lw_g (lw_at lw_m0 168 rfl) rfl
theorem q178 : (Jvm.Cond.soleField "MeanGroupsModel" "seedY") ∈ lw_all := lw_g (lw_at lw_m0 169 rfl) rfl
theorem q179 : (Jvm.Cond.laysFinal "MeanGroupsModel" "MeanGroupsModel" "sumX" "[I") ∈ lw_all := lw_g (lw_at lw_m0 170 rfl) rfl
theorem q180 : (Jvm.Cond.soleField "MeanGroupsModel" "sumX") ∈ lw_all := lw_g (lw_at lw_m0 171 rfl) rfl
theorem q181 : (Jvm.Cond.laysFinal "MeanGroupsModel" "MeanGroupsModel" "sumY" "[I") ∈ lw_all := lw_g (lw_at lw_m0 172 rfl) rfl
theorem q182 : (Jvm.Cond.soleField "MeanGroupsModel" "sumY") ∈ lw_all := lw_g (lw_at lw_m0 173 rfl) rfl
theorem q183 : (Jvm.Cond.laysFinal "MeanGroupsModel" "MeanGroupsModel" "parts" "[I") ∈ lw_all := lw_g (lw_at lw_m0 174 rfl) rfl
theorem q184 : (Jvm.Cond.soleField "MeanGroupsModel" "parts") ∈ lw_all := lw_g (lw_at lw_m0 175 rfl) rfl
theorem q185 : (Jvm.Cond.superclass "MeanGroupsModel" "java/lang/Object") ∈ lw_all := lw_g (lw_at lw_m0 176 rfl) rfl
theorem q187 : (Jvm.Cond.instanceMethod ({ cls := "MeanGroupsModel", name := "add", desc := "(II)I" } : Jvm.MethodName)) ∈ lw_all := lw_g (lw_at lw_m0 178 rfl) rfl
theorem q188 : (Jvm.Cond.selects "MeanGroupsModel" ({ cls := "MeanGroupsModel", name := "add", desc := "(II)I" } : Jvm.MethodName) ({ cls := "MeanGroupsModel", name := "add", desc := "(II)I" } : Jvm.MethodName)) ∈ lw_all := lw_g (lw_at lw_m0 179 rfl) rfl
theorem q189 : (Jvm.Cond.code ({ cls := "MeanGroupsModel", name := "add", desc := "(II)I" } : Jvm.MethodName) prog_3_method_3_code (3 : Nat) (Option.some Jvm.ClassFile.FieldType.int)) ∈ lw_all := lw_g (lw_at lw_m0 180 rfl) rfl
theorem q190 : (Jvm.Cond.methodLink "MeanGroupsModel" (41 : Nat) ({ cls := "MeanGroupsModel", name := "bad", desc := "(I)Z" } : Jvm.MethodName)) ∈ lw_all := lw_g (lw_at lw_m0 181 rfl) rfl
theorem q191 : (Jvm.Cond.static ({ cls := "MeanGroupsModel", name := "bad", desc := "(I)Z" } : Jvm.MethodName)) ∈ lw_all := lw_g (lw_at lw_m0 182 rfl) rfl
theorem q192 : (Jvm.Cond.code ({ cls := "MeanGroupsModel", name := "bad", desc := "(I)Z" } : Jvm.MethodName) prog_3_method_2_code (1 : Nat) (Option.some Jvm.ClassFile.FieldType.boolean)) ∈ lw_all := lw_g (lw_at lw_m0 183 rfl) rfl
theorem q194 : (Jvm.Cond.instanceMethod ({ cls := "MeanGroupsModel", name := "drop", desc := "(I)I" } : Jvm.MethodName)) ∈ lw_all := lw_g (lw_at lw_m0 185 rfl) rfl
theorem q195 : (Jvm.Cond.selects "MeanGroupsModel" ({ cls := "MeanGroupsModel", name := "drop", desc := "(I)I" } : Jvm.MethodName) ({ cls := "MeanGroupsModel", name := "drop", desc := "(I)I" } : Jvm.MethodName)) ∈ lw_all := lw_g (lw_at lw_m0 186 rfl) rfl
theorem q196 : (Jvm.Cond.code ({ cls := "MeanGroupsModel", name := "drop", desc := "(I)I" } : Jvm.MethodName) prog_3_method_4_code (3 : Nat) (Option.some Jvm.ClassFile.FieldType.int)) ∈ lw_all := lw_g (lw_at lw_m0 187 rfl) rfl
theorem q198 : (Jvm.Cond.instanceMethod ({ cls := "MeanGroupsModel", name := "seed", desc := "(III)I" } : Jvm.MethodName)) ∈ lw_all := lw_g (lw_at lw_m0 189 rfl) rfl
theorem q199 : (Jvm.Cond.selects "MeanGroupsModel" ({ cls := "MeanGroupsModel", name := "seed", desc := "(III)I" } : Jvm.MethodName) ({ cls := "MeanGroupsModel", name := "seed", desc := "(III)I" } : Jvm.MethodName)) ∈ lw_all := lw_g (lw_at lw_m0 190 rfl) rfl
theorem q200 : (Jvm.Cond.code ({ cls := "MeanGroupsModel", name := "seed", desc := "(III)I" } : Jvm.MethodName) prog_3_method_5_code (4 : Nat) (Option.some Jvm.ClassFile.FieldType.int)) ∈ lw_all := lw_g (lw_at lw_m0 191 rfl) rfl
theorem q202 : (Jvm.Cond.instanceMethod ({ cls := "MeanGroupsModel", name := "groups", desc := "(I)V" } : Jvm.MethodName)) ∈ lw_all := lw_g (lw_at lw_m0 193 rfl) rfl
theorem q203 : (Jvm.Cond.selects "MeanGroupsModel" ({ cls := "MeanGroupsModel", name := "groups", desc := "(I)V" } : Jvm.MethodName) ({ cls := "MeanGroupsModel", name := "groups", desc := "(I)V" } : Jvm.MethodName)) ∈ lw_all := lw_g (lw_at lw_m0 194 rfl) rfl
theorem q204 : (Jvm.Cond.code ({ cls := "MeanGroupsModel", name := "groups", desc := "(I)V" } : Jvm.MethodName) prog_3_method_6_code (2 : Nat) (Option.none : Option Jvm.ClassFile.FieldType)) ∈ lw_all := lw_g (lw_at lw_m0 195 rfl) rfl
theorem q207 : (Jvm.Cond.instanceMethod ({ cls := "MeanGroupsModel", name := "round", desc := "()I" } : Jvm.MethodName)) ∈ lw_all := lw_g (lw_at lw_m0 198 rfl) rfl
theorem q208 : (Jvm.Cond.selects "MeanGroupsModel" ({ cls := "MeanGroupsModel", name := "round", desc := "()I" } : Jvm.MethodName) ({ cls := "MeanGroupsModel", name := "round", desc := "()I" } : Jvm.MethodName)) ∈ lw_all := lw_g (lw_at lw_m0 199 rfl) rfl
theorem q209 : (Jvm.Cond.code ({ cls := "MeanGroupsModel", name := "round", desc := "()I" } : Jvm.MethodName) prog_3_method_11_code (4 : Nat) (Option.some Jvm.ClassFile.FieldType.int)) ∈ lw_all := lw_g (lw_at lw_m0 200 rfl) rfl
theorem q210 : (Jvm.Cond.methodLink "MeanGroupsModel" (56 : Nat) ({ cls := "MeanGroupsModel", name := "nearest", desc := "(I)I" } : Jvm.MethodName)) ∈ lw_all := lw_g (lw_at lw_m0 201 rfl) rfl
theorem q211 : (Jvm.Cond.privateMethod ({ cls := "MeanGroupsModel", name := "nearest", desc := "(I)I" } : Jvm.MethodName)) ∈ lw_tbl := lw_at lw_m0 202 rfl
theorem q212 : (Jvm.Cond.instanceMethod ({ cls := "MeanGroupsModel", name := "nearest", desc := "(I)I" } : Jvm.MethodName)) ∈ lw_all := lw_g (lw_at lw_m0 203 rfl) rfl
theorem q213 : (Jvm.Cond.code ({ cls := "MeanGroupsModel", name := "nearest", desc := "(I)I" } : Jvm.MethodName) prog_3_method_10_code (4 : Nat) (Option.some Jvm.ClassFile.FieldType.int)) ∈ lw_all := lw_g (lw_at lw_m0 204 rfl) rfl
theorem q214 : (Jvm.Cond.methodLink "MeanGroupsModel" (52 : Nat) ({ cls := "MeanGroupsModel", name := "nearer", desc := "(III)Z" } : Jvm.MethodName)) ∈ lw_all := lw_g (lw_at lw_m0 205 rfl) rfl
theorem q215 : (Jvm.Cond.privateMethod ({ cls := "MeanGroupsModel", name := "nearer", desc := "(III)Z" } : Jvm.MethodName)) ∈ lw_tbl := lw_at lw_m0 206 rfl
theorem q216 : (Jvm.Cond.instanceMethod ({ cls := "MeanGroupsModel", name := "nearer", desc := "(III)Z" } : Jvm.MethodName)) ∈ lw_all := lw_g (lw_at lw_m0 207 rfl) rfl
theorem q217 : (Jvm.Cond.code ({ cls := "MeanGroupsModel", name := "nearer", desc := "(III)Z" } : Jvm.MethodName) prog_3_method_8_code (4 : Nat) (Option.some Jvm.ClassFile.FieldType.boolean)) ∈ lw_all := lw_g (lw_at lw_m0 208 rfl) rfl
theorem q218 : (Jvm.Cond.methodLink "MeanGroupsModel" (48 : Nat) ({ cls := "MeanGroupsModel", name := "far", desc := "(II)J" } : Jvm.MethodName)) ∈ lw_all := lw_g (lw_at lw_m0 209 rfl) rfl
theorem q219 : (Jvm.Cond.privateMethod ({ cls := "MeanGroupsModel", name := "far", desc := "(II)J" } : Jvm.MethodName)) ∈ lw_tbl := lw_at lw_m0 210 rfl
theorem q220 : (Jvm.Cond.instanceMethod ({ cls := "MeanGroupsModel", name := "far", desc := "(II)J" } : Jvm.MethodName)) ∈ lw_all := lw_g (lw_at lw_m0 211 rfl) rfl
theorem q221 : (Jvm.Cond.code ({ cls := "MeanGroupsModel", name := "far", desc := "(II)J" } : Jvm.MethodName) prog_3_method_9_code (7 : Nat) (Option.some Jvm.ClassFile.FieldType.long)) ∈ lw_all := lw_g (lw_at lw_m0 212 rfl) rfl
theorem q222 : (Jvm.Cond.methodLink "MeanGroupsModel" (60 : Nat) ({ cls := "MeanGroupsModel", name := "size", desc := "(I)I" } : Jvm.MethodName)) ∈ lw_all := lw_g (lw_at lw_m0 213 rfl) rfl
theorem q223 : (Jvm.Cond.instanceMethod ({ cls := "MeanGroupsModel", name := "size", desc := "(I)I" } : Jvm.MethodName)) ∈ lw_all := lw_g (lw_at lw_m0 214 rfl) rfl
theorem q224 : (Jvm.Cond.selects "MeanGroupsModel" ({ cls := "MeanGroupsModel", name := "size", desc := "(I)I" } : Jvm.MethodName) ({ cls := "MeanGroupsModel", name := "size", desc := "(I)I" } : Jvm.MethodName)) ∈ lw_all := lw_g (lw_at lw_m0 215 rfl) rfl
theorem q225 : (Jvm.Cond.code ({ cls := "MeanGroupsModel", name := "size", desc := "(I)I" } : Jvm.MethodName) prog_3_method_14_code (4 : Nat) (Option.some Jvm.ClassFile.FieldType.int)) ∈ lw_all := lw_g (lw_at lw_m0 216 rfl) rfl
theorem q226 : (Jvm.Cond.methodLink "MeanGroupsModel" (63 : Nat) ({ cls := "MeanGroupsModel", name := "sum", desc := "(II)I" } : Jvm.MethodName)) ∈ lw_all := lw_g (lw_at lw_m0 217 rfl) rfl
theorem q227 : (Jvm.Cond.instanceMethod ({ cls := "MeanGroupsModel", name := "sum", desc := "(II)I" } : Jvm.MethodName)) ∈ lw_all := lw_g (lw_at lw_m0 218 rfl) rfl
theorem q228 : (Jvm.Cond.selects "MeanGroupsModel" ({ cls := "MeanGroupsModel", name := "sum", desc := "(II)I" } : Jvm.MethodName) ({ cls := "MeanGroupsModel", name := "sum", desc := "(II)I" } : Jvm.MethodName)) ∈ lw_all := lw_g (lw_at lw_m0 219 rfl) rfl
theorem q229 : (Jvm.Cond.code ({ cls := "MeanGroupsModel", name := "sum", desc := "(II)I" } : Jvm.MethodName) prog_3_method_15_code (5 : Nat) (Option.some Jvm.ClassFile.FieldType.int)) ∈ lw_all := lw_g (lw_at lw_m0 220 rfl) rfl
theorem q231 : (Jvm.Cond.instanceMethod ({ cls := "MeanGroupsModel", name := "settle", desc := "()I" } : Jvm.MethodName)) ∈ lw_all := lw_g (lw_at lw_m0 222 rfl) rfl
theorem q232 : (Jvm.Cond.selects "MeanGroupsModel" ({ cls := "MeanGroupsModel", name := "settle", desc := "()I" } : Jvm.MethodName) ({ cls := "MeanGroupsModel", name := "settle", desc := "()I" } : Jvm.MethodName)) ∈ lw_all := lw_g (lw_at lw_m0 223 rfl) rfl
theorem q233 : (Jvm.Cond.code ({ cls := "MeanGroupsModel", name := "settle", desc := "()I" } : Jvm.MethodName) prog_3_method_12_code (3 : Nat) (Option.some Jvm.ClassFile.FieldType.int)) ∈ lw_all := lw_g (lw_at lw_m0 224 rfl) rfl
theorem q234 : (Jvm.Cond.methodLink "MeanGroupsModel" (67 : Nat) ({ cls := "MeanGroupsModel", name := "round", desc := "()I" } : Jvm.MethodName)) ∈ lw_all := lw_g (lw_at lw_m0 225 rfl) rfl
theorem q236 : (Jvm.Cond.instanceMethod ({ cls := "MeanGroupsModel", name := "group", desc := "(I)I" } : Jvm.MethodName)) ∈ lw_all := lw_g (lw_at lw_m0 227 rfl) rfl
theorem q237 : (Jvm.Cond.selects "MeanGroupsModel" ({ cls := "MeanGroupsModel", name := "group", desc := "(I)I" } : Jvm.MethodName) ({ cls := "MeanGroupsModel", name := "group", desc := "(I)I" } : Jvm.MethodName)) ∈ lw_all := lw_g (lw_at lw_m0 228 rfl) rfl
theorem q238 : (Jvm.Cond.code ({ cls := "MeanGroupsModel", name := "group", desc := "(I)I" } : Jvm.MethodName) prog_3_method_13_code (2 : Nat) (Option.some Jvm.ClassFile.FieldType.int)) ∈ lw_all := lw_g (lw_at lw_m0 229 rfl) rfl
theorem q242 : (Jvm.Cond.instanceMethod ({ cls := "MeanGroupsModel", name := "near", desc := "(I)I" } : Jvm.MethodName)) ∈ lw_all := lw_g (lw_at lw_m0 233 rfl) rfl
theorem q243 : (Jvm.Cond.selects "MeanGroupsModel" ({ cls := "MeanGroupsModel", name := "near", desc := "(I)I" } : Jvm.MethodName) ({ cls := "MeanGroupsModel", name := "near", desc := "(I)I" } : Jvm.MethodName)) ∈ lw_all := lw_g (lw_at lw_m0 234 rfl) rfl
theorem q244 : (Jvm.Cond.code ({ cls := "MeanGroupsModel", name := "near", desc := "(I)I" } : Jvm.MethodName) prog_3_method_16_code (5 : Nat) (Option.some Jvm.ClassFile.FieldType.int)) ∈ lw_all := lw_g (lw_at lw_m0 235 rfl) rfl
theorem in_X1 : ∀ w ∈ wsX10, w ∈ lw_all := lw_in wsX10 [165, 167, 169, 171, 173, 175, 177, 179, 181, 183] (by decide +kernel) (by decide +kernel)

theorem dX1_init_0 : decode cX1_init 0 = .ok (.aload_n 0, 1) := by decide +kernel
theorem dX1_init_1 : decode cX1_init 1 = .ok (.invokespecial 1, 3) := by decide +kernel
theorem dX1_init_4 : decode cX1_init 4 = .ok (.aload_n 0, 1) := by decide +kernel
theorem dX1_init_5 : decode cX1_init 5 = .ok (.bipush 24, 2) := by decide +kernel
theorem dX1_init_7 : decode cX1_init 7 = .ok (.newarray .int, 2) := by decide +kernel
theorem dX1_init_9 : decode cX1_init 9 = .ok (.putfield 7, 3) := by decide +kernel
theorem dX1_init_12 : decode cX1_init 12 = .ok (.aload_n 0, 1) := by decide +kernel
theorem dX1_init_13 : decode cX1_init 13 = .ok (.bipush 24, 2) := by decide +kernel
theorem dX1_init_15 : decode cX1_init 15 = .ok (.newarray .int, 2) := by decide +kernel
theorem dX1_init_17 : decode cX1_init 17 = .ok (.putfield 13, 3) := by decide +kernel
theorem dX1_init_20 : decode cX1_init 20 = .ok (.aload_n 0, 1) := by decide +kernel
theorem dX1_init_21 : decode cX1_init 21 = .ok (.bipush 24, 2) := by decide +kernel
theorem dX1_init_23 : decode cX1_init 23 = .ok (.newarray .int, 2) := by decide +kernel
theorem dX1_init_25 : decode cX1_init 25 = .ok (.putfield 16, 3) := by decide +kernel
theorem dX1_init_28 : decode cX1_init 28 = .ok (.aload_n 0, 1) := by decide +kernel
theorem dX1_init_29 : decode cX1_init 29 = .ok (.iconst 2, 1) := by decide +kernel
theorem dX1_init_30 : decode cX1_init 30 = .ok (.putfield 19, 3) := by decide +kernel
theorem dX1_init_33 : decode cX1_init 33 = .ok (.aload_n 0, 1) := by decide +kernel
theorem dX1_init_34 : decode cX1_init 34 = .ok (.iconst 4, 1) := by decide +kernel
theorem dX1_init_35 : decode cX1_init 35 = .ok (.newarray .int, 2) := by decide +kernel
theorem dX1_init_37 : decode cX1_init 37 = .ok (.putfield 23, 3) := by decide +kernel
theorem dX1_init_40 : decode cX1_init 40 = .ok (.aload_n 0, 1) := by decide +kernel
theorem dX1_init_41 : decode cX1_init 41 = .ok (.iconst 4, 1) := by decide +kernel
theorem dX1_init_42 : decode cX1_init 42 = .ok (.newarray .int, 2) := by decide +kernel
theorem dX1_init_44 : decode cX1_init 44 = .ok (.putfield 26, 3) := by decide +kernel
theorem dX1_init_47 : decode cX1_init 47 = .ok (.aload_n 0, 1) := by decide +kernel
theorem dX1_init_48 : decode cX1_init 48 = .ok (.iconst 4, 1) := by decide +kernel
theorem dX1_init_49 : decode cX1_init 49 = .ok (.newarray .int, 2) := by decide +kernel
theorem dX1_init_51 : decode cX1_init 51 = .ok (.putfield 29, 3) := by decide +kernel
theorem dX1_init_54 : decode cX1_init 54 = .ok (.aload_n 0, 1) := by decide +kernel
theorem dX1_init_55 : decode cX1_init 55 = .ok (.iconst 4, 1) := by decide +kernel
theorem dX1_init_56 : decode cX1_init 56 = .ok (.newarray .int, 2) := by decide +kernel
theorem dX1_init_58 : decode cX1_init 58 = .ok (.putfield 32, 3) := by decide +kernel
theorem dX1_init_61 : decode cX1_init 61 = .ok (.aload_n 0, 1) := by decide +kernel
theorem dX1_init_62 : decode cX1_init 62 = .ok (.iconst 4, 1) := by decide +kernel
theorem dX1_init_63 : decode cX1_init 63 = .ok (.newarray .int, 2) := by decide +kernel
theorem dX1_init_65 : decode cX1_init 65 = .ok (.putfield 35, 3) := by decide +kernel
theorem dX1_init_68 : decode cX1_init 68 = .ok (.aload_n 0, 1) := by decide +kernel
theorem dX1_init_69 : decode cX1_init 69 = .ok (.invokevirtual 38, 3) := by decide +kernel
theorem dX1_init_72 : decode cX1_init 72 = .ok (.return_, 1) := by decide +kernel
theorem dX1_reset_0 : decode cX1_reset 0 = .ok (.iconst 0, 1) := by decide +kernel
theorem dX1_reset_1 : decode cX1_reset 1 = .ok (.istore_n 1, 1) := by decide +kernel
theorem dX1_reset_2 : decode cX1_reset 2 = .ok (.iload_n 1, 1) := by decide +kernel
theorem dX1_reset_3 : decode cX1_reset 3 = .ok (.iconst 4, 1) := by decide +kernel
theorem dX1_reset_4 : decode cX1_reset 4 = .ok (.if_icmp .ge 40, 3) := by decide +kernel
theorem dX1_reset_7 : decode cX1_reset 7 = .ok (.aload_n 0, 1) := by decide +kernel
theorem dX1_reset_8 : decode cX1_reset 8 = .ok (.getfield 29, 3) := by decide +kernel
theorem dX1_reset_11 : decode cX1_reset 11 = .ok (.iload_n 1, 1) := by decide +kernel
theorem dX1_reset_12 : decode cX1_reset 12 = .ok (.aload_n 0, 1) := by decide +kernel
theorem dX1_reset_13 : decode cX1_reset 13 = .ok (.getfield 23, 3) := by decide +kernel
theorem dX1_reset_16 : decode cX1_reset 16 = .ok (.iload_n 1, 1) := by decide +kernel
theorem dX1_reset_17 : decode cX1_reset 17 = .ok (.iaload, 1) := by decide +kernel
theorem dX1_reset_18 : decode cX1_reset 18 = .ok (.iastore, 1) := by decide +kernel
theorem dX1_reset_19 : decode cX1_reset 19 = .ok (.aload_n 0, 1) := by decide +kernel
theorem dX1_reset_20 : decode cX1_reset 20 = .ok (.getfield 32, 3) := by decide +kernel
theorem dX1_reset_23 : decode cX1_reset 23 = .ok (.iload_n 1, 1) := by decide +kernel
theorem dX1_reset_24 : decode cX1_reset 24 = .ok (.aload_n 0, 1) := by decide +kernel
theorem dX1_reset_25 : decode cX1_reset 25 = .ok (.getfield 26, 3) := by decide +kernel
theorem dX1_reset_28 : decode cX1_reset 28 = .ok (.iload_n 1, 1) := by decide +kernel
theorem dX1_reset_29 : decode cX1_reset 29 = .ok (.iaload, 1) := by decide +kernel
theorem dX1_reset_30 : decode cX1_reset 30 = .ok (.iastore, 1) := by decide +kernel
theorem dX1_reset_31 : decode cX1_reset 31 = .ok (.aload_n 0, 1) := by decide +kernel
theorem dX1_reset_32 : decode cX1_reset 32 = .ok (.getfield 35, 3) := by decide +kernel
theorem dX1_reset_35 : decode cX1_reset 35 = .ok (.iload_n 1, 1) := by decide +kernel
theorem dX1_reset_36 : decode cX1_reset 36 = .ok (.iconst 1, 1) := by decide +kernel
theorem dX1_reset_37 : decode cX1_reset 37 = .ok (.iastore, 1) := by decide +kernel
theorem dX1_reset_38 : decode cX1_reset 38 = .ok (.iinc 1 1, 3) := by decide +kernel
theorem dX1_reset_41 : decode cX1_reset 41 = .ok (.goto (-39), 3) := by decide +kernel
theorem dX1_reset_44 : decode cX1_reset 44 = .ok (.iconst 0, 1) := by decide +kernel
theorem dX1_reset_45 : decode cX1_reset 45 = .ok (.istore_n 1, 1) := by decide +kernel
theorem dX1_reset_46 : decode cX1_reset 46 = .ok (.iload_n 1, 1) := by decide +kernel
theorem dX1_reset_47 : decode cX1_reset 47 = .ok (.bipush 24, 2) := by decide +kernel
theorem dX1_reset_49 : decode cX1_reset 49 = .ok (.if_icmp .ge 16, 3) := by decide +kernel
theorem dX1_reset_52 : decode cX1_reset 52 = .ok (.aload_n 0, 1) := by decide +kernel
theorem dX1_reset_53 : decode cX1_reset 53 = .ok (.getfield 16, 3) := by decide +kernel
theorem dX1_reset_56 : decode cX1_reset 56 = .ok (.iload_n 1, 1) := by decide +kernel
theorem dX1_reset_57 : decode cX1_reset 57 = .ok (.iconst (-1), 1) := by decide +kernel
theorem dX1_reset_58 : decode cX1_reset 58 = .ok (.iastore, 1) := by decide +kernel
theorem dX1_reset_59 : decode cX1_reset 59 = .ok (.iinc 1 1, 3) := by decide +kernel
theorem dX1_reset_62 : decode cX1_reset 62 = .ok (.goto (-16), 3) := by decide +kernel
theorem dX1_reset_65 : decode cX1_reset 65 = .ok (.return_, 1) := by decide +kernel
theorem dX1_add_0 : decode cX1_add 0 = .ok (.iload_n 1, 1) := by decide +kernel
theorem dX1_add_1 : decode cX1_add 1 = .ok (.invokestatic 41, 3) := by decide +kernel
theorem dX1_add_4 : decode cX1_add 4 = .ok (.ifCond .ne 19, 3) := by decide +kernel
theorem dX1_add_7 : decode cX1_add 7 = .ok (.iload_n 2, 1) := by decide +kernel
theorem dX1_add_8 : decode cX1_add 8 = .ok (.invokestatic 41, 3) := by decide +kernel
theorem dX1_add_11 : decode cX1_add 11 = .ok (.ifCond .ne 12, 3) := by decide +kernel
theorem dX1_add_14 : decode cX1_add 14 = .ok (.aload_n 0, 1) := by decide +kernel
theorem dX1_add_15 : decode cX1_add 15 = .ok (.getfield 45, 3) := by decide +kernel
theorem dX1_add_18 : decode cX1_add 18 = .ok (.bipush 24, 2) := by decide +kernel
theorem dX1_add_20 : decode cX1_add 20 = .ok (.if_icmp .ne 5, 3) := by decide +kernel
theorem dX1_add_23 : decode cX1_add 23 = .ok (.iconst (-1), 1) := by decide +kernel
theorem dX1_add_24 : decode cX1_add 24 = .ok (.ireturn, 1) := by decide +kernel
theorem dX1_add_25 : decode cX1_add 25 = .ok (.aload_n 0, 1) := by decide +kernel
theorem dX1_add_26 : decode cX1_add 26 = .ok (.getfield 7, 3) := by decide +kernel
theorem dX1_add_29 : decode cX1_add 29 = .ok (.aload_n 0, 1) := by decide +kernel
theorem dX1_add_30 : decode cX1_add 30 = .ok (.getfield 45, 3) := by decide +kernel
theorem dX1_add_33 : decode cX1_add 33 = .ok (.iload_n 1, 1) := by decide +kernel
theorem dX1_add_34 : decode cX1_add 34 = .ok (.iastore, 1) := by decide +kernel
theorem dX1_add_35 : decode cX1_add 35 = .ok (.aload_n 0, 1) := by decide +kernel
theorem dX1_add_36 : decode cX1_add 36 = .ok (.getfield 13, 3) := by decide +kernel
theorem dX1_add_39 : decode cX1_add 39 = .ok (.aload_n 0, 1) := by decide +kernel
theorem dX1_add_40 : decode cX1_add 40 = .ok (.getfield 45, 3) := by decide +kernel
theorem dX1_add_43 : decode cX1_add 43 = .ok (.iload_n 2, 1) := by decide +kernel
theorem dX1_add_44 : decode cX1_add 44 = .ok (.iastore, 1) := by decide +kernel
theorem dX1_add_45 : decode cX1_add 45 = .ok (.aload_n 0, 1) := by decide +kernel
theorem dX1_add_46 : decode cX1_add 46 = .ok (.dup, 1) := by decide +kernel
theorem dX1_add_47 : decode cX1_add 47 = .ok (.getfield 45, 3) := by decide +kernel
theorem dX1_add_50 : decode cX1_add 50 = .ok (.iconst 1, 1) := by decide +kernel
theorem dX1_add_51 : decode cX1_add 51 = .ok (.iadd, 1) := by decide +kernel
theorem dX1_add_52 : decode cX1_add 52 = .ok (.putfield 45, 3) := by decide +kernel
theorem dX1_add_55 : decode cX1_add 55 = .ok (.aload_n 0, 1) := by decide +kernel
theorem dX1_add_56 : decode cX1_add 56 = .ok (.invokevirtual 38, 3) := by decide +kernel
theorem dX1_add_59 : decode cX1_add 59 = .ok (.aload_n 0, 1) := by decide +kernel
theorem dX1_add_60 : decode cX1_add 60 = .ok (.getfield 45, 3) := by decide +kernel
theorem dX1_add_63 : decode cX1_add 63 = .ok (.ireturn, 1) := by decide +kernel
theorem dX1_bad_0 : decode cX1_bad 0 = .ok (.iload_n 0, 1) := by decide +kernel
theorem dX1_bad_1 : decode cX1_bad 1 = .ok (.bipush (-50), 2) := by decide +kernel
theorem dX1_bad_3 : decode cX1_bad 3 = .ok (.if_icmp .lt 9, 3) := by decide +kernel
theorem dX1_bad_6 : decode cX1_bad 6 = .ok (.iload_n 0, 1) := by decide +kernel
theorem dX1_bad_7 : decode cX1_bad 7 = .ok (.bipush 50, 2) := by decide +kernel
theorem dX1_bad_9 : decode cX1_bad 9 = .ok (.if_icmp .le 7, 3) := by decide +kernel
theorem dX1_bad_12 : decode cX1_bad 12 = .ok (.iconst 1, 1) := by decide +kernel
theorem dX1_bad_13 : decode cX1_bad 13 = .ok (.goto 4, 3) := by decide +kernel
theorem dX1_bad_16 : decode cX1_bad 16 = .ok (.iconst 0, 1) := by decide +kernel
theorem dX1_bad_17 : decode cX1_bad 17 = .ok (.ireturn, 1) := by decide +kernel
theorem dX1_drop_0 : decode cX1_drop 0 = .ok (.iload_n 1, 1) := by decide +kernel
theorem dX1_drop_1 : decode cX1_drop 1 = .ok (.ifCond .lt 11, 3) := by decide +kernel
theorem dX1_drop_4 : decode cX1_drop 4 = .ok (.iload_n 1, 1) := by decide +kernel
theorem dX1_drop_5 : decode cX1_drop 5 = .ok (.aload_n 0, 1) := by decide +kernel
theorem dX1_drop_6 : decode cX1_drop 6 = .ok (.getfield 45, 3) := by decide +kernel
theorem dX1_drop_9 : decode cX1_drop 9 = .ok (.if_icmp .lt 5, 3) := by decide +kernel
theorem dX1_drop_12 : decode cX1_drop 12 = .ok (.iconst (-1), 1) := by decide +kernel
theorem dX1_drop_13 : decode cX1_drop 13 = .ok (.ireturn, 1) := by decide +kernel
theorem dX1_drop_14 : decode cX1_drop 14 = .ok (.aload_n 0, 1) := by decide +kernel
theorem dX1_drop_15 : decode cX1_drop 15 = .ok (.dup, 1) := by decide +kernel
theorem dX1_drop_16 : decode cX1_drop 16 = .ok (.getfield 45, 3) := by decide +kernel
theorem dX1_drop_19 : decode cX1_drop 19 = .ok (.iconst 1, 1) := by decide +kernel
theorem dX1_drop_20 : decode cX1_drop 20 = .ok (.isub, 1) := by decide +kernel
theorem dX1_drop_21 : decode cX1_drop 21 = .ok (.putfield 45, 3) := by decide +kernel
theorem dX1_drop_24 : decode cX1_drop 24 = .ok (.iload_n 1, 1) := by decide +kernel
theorem dX1_drop_25 : decode cX1_drop 25 = .ok (.istore_n 2, 1) := by decide +kernel
theorem dX1_drop_26 : decode cX1_drop 26 = .ok (.iload_n 2, 1) := by decide +kernel
theorem dX1_drop_27 : decode cX1_drop 27 = .ok (.aload_n 0, 1) := by decide +kernel
theorem dX1_drop_28 : decode cX1_drop 28 = .ok (.getfield 45, 3) := by decide +kernel
theorem dX1_drop_31 : decode cX1_drop 31 = .ok (.if_icmp .ge 37, 3) := by decide +kernel
theorem dX1_drop_34 : decode cX1_drop 34 = .ok (.aload_n 0, 1) := by decide +kernel
theorem dX1_drop_35 : decode cX1_drop 35 = .ok (.getfield 7, 3) := by decide +kernel
theorem dX1_drop_38 : decode cX1_drop 38 = .ok (.iload_n 2, 1) := by decide +kernel
theorem dX1_drop_39 : decode cX1_drop 39 = .ok (.aload_n 0, 1) := by decide +kernel
theorem dX1_drop_40 : decode cX1_drop 40 = .ok (.getfield 7, 3) := by decide +kernel
theorem dX1_drop_43 : decode cX1_drop 43 = .ok (.iload_n 2, 1) := by decide +kernel
theorem dX1_drop_44 : decode cX1_drop 44 = .ok (.iconst 1, 1) := by decide +kernel
theorem dX1_drop_45 : decode cX1_drop 45 = .ok (.iadd, 1) := by decide +kernel
theorem dX1_drop_46 : decode cX1_drop 46 = .ok (.iaload, 1) := by decide +kernel
theorem dX1_drop_47 : decode cX1_drop 47 = .ok (.iastore, 1) := by decide +kernel
theorem dX1_drop_48 : decode cX1_drop 48 = .ok (.aload_n 0, 1) := by decide +kernel
theorem dX1_drop_49 : decode cX1_drop 49 = .ok (.getfield 13, 3) := by decide +kernel
theorem dX1_drop_52 : decode cX1_drop 52 = .ok (.iload_n 2, 1) := by decide +kernel
theorem dX1_drop_53 : decode cX1_drop 53 = .ok (.aload_n 0, 1) := by decide +kernel
theorem dX1_drop_54 : decode cX1_drop 54 = .ok (.getfield 13, 3) := by decide +kernel
theorem dX1_drop_57 : decode cX1_drop 57 = .ok (.iload_n 2, 1) := by decide +kernel
theorem dX1_drop_58 : decode cX1_drop 58 = .ok (.iconst 1, 1) := by decide +kernel
theorem dX1_drop_59 : decode cX1_drop 59 = .ok (.iadd, 1) := by decide +kernel
theorem dX1_drop_60 : decode cX1_drop 60 = .ok (.iaload, 1) := by decide +kernel
theorem dX1_drop_61 : decode cX1_drop 61 = .ok (.iastore, 1) := by decide +kernel
theorem dX1_drop_62 : decode cX1_drop 62 = .ok (.iinc 2 1, 3) := by decide +kernel
theorem dX1_drop_65 : decode cX1_drop 65 = .ok (.goto (-39), 3) := by decide +kernel
theorem dX1_drop_68 : decode cX1_drop 68 = .ok (.aload_n 0, 1) := by decide +kernel
theorem dX1_drop_69 : decode cX1_drop 69 = .ok (.invokevirtual 38, 3) := by decide +kernel
theorem dX1_drop_72 : decode cX1_drop 72 = .ok (.aload_n 0, 1) := by decide +kernel
theorem dX1_drop_73 : decode cX1_drop 73 = .ok (.getfield 45, 3) := by decide +kernel
theorem dX1_drop_76 : decode cX1_drop 76 = .ok (.ireturn, 1) := by decide +kernel
theorem dX1_seed_0 : decode cX1_seed 0 = .ok (.iload_n 1, 1) := by decide +kernel
theorem dX1_seed_1 : decode cX1_seed 1 = .ok (.ifCond .lt 22, 3) := by decide +kernel
theorem dX1_seed_4 : decode cX1_seed 4 = .ok (.iload_n 1, 1) := by decide +kernel
theorem dX1_seed_5 : decode cX1_seed 5 = .ok (.iconst 3, 1) := by decide +kernel
theorem dX1_seed_6 : decode cX1_seed 6 = .ok (.if_icmp .gt 17, 3) := by decide +kernel
theorem dX1_seed_9 : decode cX1_seed 9 = .ok (.iload_n 2, 1) := by decide +kernel
theorem dX1_seed_10 : decode cX1_seed 10 = .ok (.invokestatic 41, 3) := by decide +kernel
theorem dX1_seed_13 : decode cX1_seed 13 = .ok (.ifCond .ne 10, 3) := by decide +kernel
theorem dX1_seed_16 : decode cX1_seed 16 = .ok (.iload_n 3, 1) := by decide +kernel
theorem dX1_seed_17 : decode cX1_seed 17 = .ok (.invokestatic 41, 3) := by decide +kernel
theorem dX1_seed_20 : decode cX1_seed 20 = .ok (.ifCond .eq 5, 3) := by decide +kernel
theorem dX1_seed_23 : decode cX1_seed 23 = .ok (.iconst (-1), 1) := by decide +kernel
theorem dX1_seed_24 : decode cX1_seed 24 = .ok (.ireturn, 1) := by decide +kernel
theorem dX1_seed_25 : decode cX1_seed 25 = .ok (.aload_n 0, 1) := by decide +kernel
theorem dX1_seed_26 : decode cX1_seed 26 = .ok (.getfield 23, 3) := by decide +kernel
theorem dX1_seed_29 : decode cX1_seed 29 = .ok (.iload_n 1, 1) := by decide +kernel
theorem dX1_seed_30 : decode cX1_seed 30 = .ok (.iload_n 2, 1) := by decide +kernel
theorem dX1_seed_31 : decode cX1_seed 31 = .ok (.iastore, 1) := by decide +kernel
theorem dX1_seed_32 : decode cX1_seed 32 = .ok (.aload_n 0, 1) := by decide +kernel
theorem dX1_seed_33 : decode cX1_seed 33 = .ok (.getfield 26, 3) := by decide +kernel
theorem dX1_seed_36 : decode cX1_seed 36 = .ok (.iload_n 1, 1) := by decide +kernel
theorem dX1_seed_37 : decode cX1_seed 37 = .ok (.iload_n 3, 1) := by decide +kernel
theorem dX1_seed_38 : decode cX1_seed 38 = .ok (.iastore, 1) := by decide +kernel
theorem dX1_seed_39 : decode cX1_seed 39 = .ok (.aload_n 0, 1) := by decide +kernel
theorem dX1_seed_40 : decode cX1_seed 40 = .ok (.invokevirtual 38, 3) := by decide +kernel
theorem dX1_seed_43 : decode cX1_seed 43 = .ok (.iconst 0, 1) := by decide +kernel
theorem dX1_seed_44 : decode cX1_seed 44 = .ok (.ireturn, 1) := by decide +kernel
theorem dX1_groups_0 : decode cX1_groups 0 = .ok (.aload_n 0, 1) := by decide +kernel
theorem dX1_groups_1 : decode cX1_groups 1 = .ok (.iload_n 1, 1) := by decide +kernel
theorem dX1_groups_2 : decode cX1_groups 2 = .ok (.iconst 1, 1) := by decide +kernel
theorem dX1_groups_3 : decode cX1_groups 3 = .ok (.if_icmp .ge 7, 3) := by decide +kernel
theorem dX1_groups_6 : decode cX1_groups 6 = .ok (.iconst 1, 1) := by decide +kernel
theorem dX1_groups_7 : decode cX1_groups 7 = .ok (.goto 13, 3) := by decide +kernel
theorem dX1_groups_10 : decode cX1_groups 10 = .ok (.iload_n 1, 1) := by decide +kernel
theorem dX1_groups_11 : decode cX1_groups 11 = .ok (.iconst 4, 1) := by decide +kernel
theorem dX1_groups_12 : decode cX1_groups 12 = .ok (.if_icmp .le 7, 3) := by decide +kernel
theorem dX1_groups_15 : decode cX1_groups 15 = .ok (.iconst 4, 1) := by decide +kernel
theorem dX1_groups_16 : decode cX1_groups 16 = .ok (.goto 4, 3) := by decide +kernel
theorem dX1_groups_19 : decode cX1_groups 19 = .ok (.iload_n 1, 1) := by decide +kernel
theorem dX1_groups_20 : decode cX1_groups 20 = .ok (.putfield 19, 3) := by decide +kernel
theorem dX1_groups_23 : decode cX1_groups 23 = .ok (.aload_n 0, 1) := by decide +kernel
theorem dX1_groups_24 : decode cX1_groups 24 = .ok (.invokevirtual 38, 3) := by decide +kernel
theorem dX1_groups_27 : decode cX1_groups 27 = .ok (.return_, 1) := by decide +kernel
theorem dX1_round_0 : decode cX1_round 0 = .ok (.iconst 0, 1) := by decide +kernel
theorem dX1_round_1 : decode cX1_round 1 = .ok (.istore_n 1, 1) := by decide +kernel
theorem dX1_round_2 : decode cX1_round 2 = .ok (.iconst 0, 1) := by decide +kernel
theorem dX1_round_3 : decode cX1_round 3 = .ok (.istore_n 2, 1) := by decide +kernel
theorem dX1_round_4 : decode cX1_round 4 = .ok (.iload_n 2, 1) := by decide +kernel
theorem dX1_round_5 : decode cX1_round 5 = .ok (.aload_n 0, 1) := by decide +kernel
theorem dX1_round_6 : decode cX1_round 6 = .ok (.getfield 45, 3) := by decide +kernel
theorem dX1_round_9 : decode cX1_round 9 = .ok (.if_icmp .ge 35, 3) := by decide +kernel
theorem dX1_round_12 : decode cX1_round 12 = .ok (.aload_n 0, 1) := by decide +kernel
theorem dX1_round_13 : decode cX1_round 13 = .ok (.iload_n 2, 1) := by decide +kernel
theorem dX1_round_14 : decode cX1_round 14 = .ok (.invokevirtual 56, 3) := by decide +kernel
theorem dX1_round_17 : decode cX1_round 17 = .ok (.istore_n 3, 1) := by decide +kernel
theorem dX1_round_18 : decode cX1_round 18 = .ok (.iload_n 3, 1) := by decide +kernel
theorem dX1_round_19 : decode cX1_round 19 = .ok (.aload_n 0, 1) := by decide +kernel
theorem dX1_round_20 : decode cX1_round 20 = .ok (.getfield 16, 3) := by decide +kernel
theorem dX1_round_23 : decode cX1_round 23 = .ok (.iload_n 2, 1) := by decide +kernel
theorem dX1_round_24 : decode cX1_round 24 = .ok (.iaload, 1) := by decide +kernel
theorem dX1_round_25 : decode cX1_round 25 = .ok (.if_icmp .eq 6, 3) := by decide +kernel
theorem dX1_round_28 : decode cX1_round 28 = .ok (.iinc 1 1, 3) := by decide +kernel
theorem dX1_round_31 : decode cX1_round 31 = .ok (.aload_n 0, 1) := by decide +kernel
theorem dX1_round_32 : decode cX1_round 32 = .ok (.getfield 16, 3) := by decide +kernel
theorem dX1_round_35 : decode cX1_round 35 = .ok (.iload_n 2, 1) := by decide +kernel
theorem dX1_round_36 : decode cX1_round 36 = .ok (.iload_n 3, 1) := by decide +kernel
theorem dX1_round_37 : decode cX1_round 37 = .ok (.iastore, 1) := by decide +kernel
theorem dX1_round_38 : decode cX1_round 38 = .ok (.iinc 2 1, 3) := by decide +kernel
theorem dX1_round_41 : decode cX1_round 41 = .ok (.goto (-37), 3) := by decide +kernel
theorem dX1_round_44 : decode cX1_round 44 = .ok (.iconst 0, 1) := by decide +kernel
theorem dX1_round_45 : decode cX1_round 45 = .ok (.istore_n 2, 1) := by decide +kernel
theorem dX1_round_46 : decode cX1_round 46 = .ok (.iload_n 2, 1) := by decide +kernel
theorem dX1_round_47 : decode cX1_round 47 = .ok (.aload_n 0, 1) := by decide +kernel
theorem dX1_round_48 : decode cX1_round 48 = .ok (.getfield 19, 3) := by decide +kernel
theorem dX1_round_51 : decode cX1_round 51 = .ok (.if_icmp .ge 54, 3) := by decide +kernel
theorem dX1_round_54 : decode cX1_round 54 = .ok (.aload_n 0, 1) := by decide +kernel
theorem dX1_round_55 : decode cX1_round 55 = .ok (.iload_n 2, 1) := by decide +kernel
theorem dX1_round_56 : decode cX1_round 56 = .ok (.invokevirtual 60, 3) := by decide +kernel
theorem dX1_round_59 : decode cX1_round 59 = .ok (.ifCond .le 40, 3) := by decide +kernel
theorem dX1_round_62 : decode cX1_round 62 = .ok (.aload_n 0, 1) := by decide +kernel
theorem dX1_round_63 : decode cX1_round 63 = .ok (.iload_n 2, 1) := by decide +kernel
theorem dX1_round_64 : decode cX1_round 64 = .ok (.invokevirtual 60, 3) := by decide +kernel
theorem dX1_round_67 : decode cX1_round 67 = .ok (.istore_n 3, 1) := by decide +kernel
theorem dX1_round_68 : decode cX1_round 68 = .ok (.aload_n 0, 1) := by decide +kernel
theorem dX1_round_69 : decode cX1_round 69 = .ok (.getfield 29, 3) := by decide +kernel
theorem dX1_round_72 : decode cX1_round 72 = .ok (.iload_n 2, 1) := by decide +kernel
theorem dX1_round_73 : decode cX1_round 73 = .ok (.aload_n 0, 1) := by decide +kernel
theorem dX1_round_74 : decode cX1_round 74 = .ok (.iload_n 2, 1) := by decide +kernel
theorem dX1_round_75 : decode cX1_round 75 = .ok (.iconst 0, 1) := by decide +kernel
theorem dX1_round_76 : decode cX1_round 76 = .ok (.invokevirtual 63, 3) := by decide +kernel
theorem dX1_round_79 : decode cX1_round 79 = .ok (.iastore, 1) := by decide +kernel
theorem dX1_round_80 : decode cX1_round 80 = .ok (.aload_n 0, 1) := by decide +kernel
theorem dX1_round_81 : decode cX1_round 81 = .ok (.getfield 32, 3) := by decide +kernel
theorem dX1_round_84 : decode cX1_round 84 = .ok (.iload_n 2, 1) := by decide +kernel
theorem dX1_round_85 : decode cX1_round 85 = .ok (.aload_n 0, 1) := by decide +kernel
theorem dX1_round_86 : decode cX1_round 86 = .ok (.iload_n 2, 1) := by decide +kernel
theorem dX1_round_87 : decode cX1_round 87 = .ok (.iconst 1, 1) := by decide +kernel
theorem dX1_round_88 : decode cX1_round 88 = .ok (.invokevirtual 63, 3) := by decide +kernel
theorem dX1_round_91 : decode cX1_round 91 = .ok (.iastore, 1) := by decide +kernel
theorem dX1_round_92 : decode cX1_round 92 = .ok (.aload_n 0, 1) := by decide +kernel
theorem dX1_round_93 : decode cX1_round 93 = .ok (.getfield 35, 3) := by decide +kernel
theorem dX1_round_96 : decode cX1_round 96 = .ok (.iload_n 2, 1) := by decide +kernel
theorem dX1_round_97 : decode cX1_round 97 = .ok (.iload_n 3, 1) := by decide +kernel
theorem dX1_round_98 : decode cX1_round 98 = .ok (.iastore, 1) := by decide +kernel
theorem dX1_round_99 : decode cX1_round 99 = .ok (.iinc 2 1, 3) := by decide +kernel
theorem dX1_round_102 : decode cX1_round 102 = .ok (.goto (-56), 3) := by decide +kernel
theorem dX1_round_105 : decode cX1_round 105 = .ok (.iload_n 1, 1) := by decide +kernel
theorem dX1_round_106 : decode cX1_round 106 = .ok (.ireturn, 1) := by decide +kernel
theorem dX1_nearest_0 : decode cX1_nearest 0 = .ok (.iconst 0, 1) := by decide +kernel
theorem dX1_nearest_1 : decode cX1_nearest 1 = .ok (.istore_n 2, 1) := by decide +kernel
theorem dX1_nearest_2 : decode cX1_nearest 2 = .ok (.iconst 1, 1) := by decide +kernel
theorem dX1_nearest_3 : decode cX1_nearest 3 = .ok (.istore_n 3, 1) := by decide +kernel
theorem dX1_nearest_4 : decode cX1_nearest 4 = .ok (.iload_n 3, 1) := by decide +kernel
theorem dX1_nearest_5 : decode cX1_nearest 5 = .ok (.aload_n 0, 1) := by decide +kernel
theorem dX1_nearest_6 : decode cX1_nearest 6 = .ok (.getfield 19, 3) := by decide +kernel
theorem dX1_nearest_9 : decode cX1_nearest 9 = .ok (.if_icmp .ge 21, 3) := by decide +kernel
theorem dX1_nearest_12 : decode cX1_nearest 12 = .ok (.aload_n 0, 1) := by decide +kernel
theorem dX1_nearest_13 : decode cX1_nearest 13 = .ok (.iload_n 1, 1) := by decide +kernel
theorem dX1_nearest_14 : decode cX1_nearest 14 = .ok (.iload_n 3, 1) := by decide +kernel
theorem dX1_nearest_15 : decode cX1_nearest 15 = .ok (.iload_n 2, 1) := by decide +kernel
theorem dX1_nearest_16 : decode cX1_nearest 16 = .ok (.invokevirtual 52, 3) := by decide +kernel
theorem dX1_nearest_19 : decode cX1_nearest 19 = .ok (.ifCond .eq 5, 3) := by decide +kernel
theorem dX1_nearest_22 : decode cX1_nearest 22 = .ok (.iload_n 3, 1) := by decide +kernel
theorem dX1_nearest_23 : decode cX1_nearest 23 = .ok (.istore_n 2, 1) := by decide +kernel
theorem dX1_nearest_24 : decode cX1_nearest 24 = .ok (.iinc 3 1, 3) := by decide +kernel
theorem dX1_nearest_27 : decode cX1_nearest 27 = .ok (.goto (-23), 3) := by decide +kernel
theorem dX1_nearest_30 : decode cX1_nearest 30 = .ok (.iload_n 2, 1) := by decide +kernel
theorem dX1_nearest_31 : decode cX1_nearest 31 = .ok (.ireturn, 1) := by decide +kernel
theorem dX1_nearer_0 : decode cX1_nearer 0 = .ok (.aload_n 0, 1) := by decide +kernel
theorem dX1_nearer_1 : decode cX1_nearer 1 = .ok (.iload_n 1, 1) := by decide +kernel
theorem dX1_nearer_2 : decode cX1_nearer 2 = .ok (.iload_n 2, 1) := by decide +kernel
theorem dX1_nearer_3 : decode cX1_nearer 3 = .ok (.invokevirtual 48, 3) := by decide +kernel
theorem dX1_nearer_6 : decode cX1_nearer 6 = .ok (.aload_n 0, 1) := by decide +kernel
theorem dX1_nearer_7 : decode cX1_nearer 7 = .ok (.getfield 35, 3) := by decide +kernel
theorem dX1_nearer_10 : decode cX1_nearer 10 = .ok (.iload_n 3, 1) := by decide +kernel
theorem dX1_nearer_11 : decode cX1_nearer 11 = .ok (.iaload, 1) := by decide +kernel
theorem dX1_nearer_12 : decode cX1_nearer 12 = .ok (.i2l, 1) := by decide +kernel
theorem dX1_nearer_13 : decode cX1_nearer 13 = .ok (.lmul, 1) := by decide +kernel
theorem dX1_nearer_14 : decode cX1_nearer 14 = .ok (.aload_n 0, 1) := by decide +kernel
theorem dX1_nearer_15 : decode cX1_nearer 15 = .ok (.getfield 35, 3) := by decide +kernel
theorem dX1_nearer_18 : decode cX1_nearer 18 = .ok (.iload_n 3, 1) := by decide +kernel
theorem dX1_nearer_19 : decode cX1_nearer 19 = .ok (.iaload, 1) := by decide +kernel
theorem dX1_nearer_20 : decode cX1_nearer 20 = .ok (.i2l, 1) := by decide +kernel
theorem dX1_nearer_21 : decode cX1_nearer 21 = .ok (.lmul, 1) := by decide +kernel
theorem dX1_nearer_22 : decode cX1_nearer 22 = .ok (.aload_n 0, 1) := by decide +kernel
theorem dX1_nearer_23 : decode cX1_nearer 23 = .ok (.iload_n 1, 1) := by decide +kernel
theorem dX1_nearer_24 : decode cX1_nearer 24 = .ok (.iload_n 3, 1) := by decide +kernel
theorem dX1_nearer_25 : decode cX1_nearer 25 = .ok (.invokevirtual 48, 3) := by decide +kernel
theorem dX1_nearer_28 : decode cX1_nearer 28 = .ok (.aload_n 0, 1) := by decide +kernel
theorem dX1_nearer_29 : decode cX1_nearer 29 = .ok (.getfield 35, 3) := by decide +kernel
theorem dX1_nearer_32 : decode cX1_nearer 32 = .ok (.iload_n 2, 1) := by decide +kernel
theorem dX1_nearer_33 : decode cX1_nearer 33 = .ok (.iaload, 1) := by decide +kernel
theorem dX1_nearer_34 : decode cX1_nearer 34 = .ok (.i2l, 1) := by decide +kernel
theorem dX1_nearer_35 : decode cX1_nearer 35 = .ok (.lmul, 1) := by decide +kernel
theorem dX1_nearer_36 : decode cX1_nearer 36 = .ok (.aload_n 0, 1) := by decide +kernel
theorem dX1_nearer_37 : decode cX1_nearer 37 = .ok (.getfield 35, 3) := by decide +kernel
theorem dX1_nearer_40 : decode cX1_nearer 40 = .ok (.iload_n 2, 1) := by decide +kernel
theorem dX1_nearer_41 : decode cX1_nearer 41 = .ok (.iaload, 1) := by decide +kernel
theorem dX1_nearer_42 : decode cX1_nearer 42 = .ok (.i2l, 1) := by decide +kernel
theorem dX1_nearer_43 : decode cX1_nearer 43 = .ok (.lmul, 1) := by decide +kernel
theorem dX1_nearer_44 : decode cX1_nearer 44 = .ok (.lcmp, 1) := by decide +kernel
theorem dX1_nearer_45 : decode cX1_nearer 45 = .ok (.ifCond .ge 7, 3) := by decide +kernel
theorem dX1_nearer_48 : decode cX1_nearer 48 = .ok (.iconst 1, 1) := by decide +kernel
theorem dX1_nearer_49 : decode cX1_nearer 49 = .ok (.goto 4, 3) := by decide +kernel
theorem dX1_nearer_52 : decode cX1_nearer 52 = .ok (.iconst 0, 1) := by decide +kernel
theorem dX1_nearer_53 : decode cX1_nearer 53 = .ok (.ireturn, 1) := by decide +kernel
theorem dX1_far_0 : decode cX1_far 0 = .ok (.aload_n 0, 1) := by decide +kernel
theorem dX1_far_1 : decode cX1_far 1 = .ok (.getfield 7, 3) := by decide +kernel
theorem dX1_far_4 : decode cX1_far 4 = .ok (.iload_n 1, 1) := by decide +kernel
theorem dX1_far_5 : decode cX1_far 5 = .ok (.iaload, 1) := by decide +kernel
theorem dX1_far_6 : decode cX1_far 6 = .ok (.aload_n 0, 1) := by decide +kernel
theorem dX1_far_7 : decode cX1_far 7 = .ok (.getfield 35, 3) := by decide +kernel
theorem dX1_far_10 : decode cX1_far 10 = .ok (.iload_n 2, 1) := by decide +kernel
theorem dX1_far_11 : decode cX1_far 11 = .ok (.iaload, 1) := by decide +kernel
theorem dX1_far_12 : decode cX1_far 12 = .ok (.imul, 1) := by decide +kernel
theorem dX1_far_13 : decode cX1_far 13 = .ok (.aload_n 0, 1) := by decide +kernel
theorem dX1_far_14 : decode cX1_far 14 = .ok (.getfield 29, 3) := by decide +kernel
theorem dX1_far_17 : decode cX1_far 17 = .ok (.iload_n 2, 1) := by decide +kernel
theorem dX1_far_18 : decode cX1_far 18 = .ok (.iaload, 1) := by decide +kernel
theorem dX1_far_19 : decode cX1_far 19 = .ok (.isub, 1) := by decide +kernel
theorem dX1_far_20 : decode cX1_far 20 = .ok (.i2l, 1) := by decide +kernel
theorem dX1_far_21 : decode cX1_far 21 = .ok (.lstore_n 3, 1) := by decide +kernel
theorem dX1_far_22 : decode cX1_far 22 = .ok (.aload_n 0, 1) := by decide +kernel
theorem dX1_far_23 : decode cX1_far 23 = .ok (.getfield 13, 3) := by decide +kernel
theorem dX1_far_26 : decode cX1_far 26 = .ok (.iload_n 1, 1) := by decide +kernel
theorem dX1_far_27 : decode cX1_far 27 = .ok (.iaload, 1) := by decide +kernel
theorem dX1_far_28 : decode cX1_far 28 = .ok (.aload_n 0, 1) := by decide +kernel
theorem dX1_far_29 : decode cX1_far 29 = .ok (.getfield 35, 3) := by decide +kernel
theorem dX1_far_32 : decode cX1_far 32 = .ok (.iload_n 2, 1) := by decide +kernel
theorem dX1_far_33 : decode cX1_far 33 = .ok (.iaload, 1) := by decide +kernel
theorem dX1_far_34 : decode cX1_far 34 = .ok (.imul, 1) := by decide +kernel
theorem dX1_far_35 : decode cX1_far 35 = .ok (.aload_n 0, 1) := by decide +kernel
theorem dX1_far_36 : decode cX1_far 36 = .ok (.getfield 32, 3) := by decide +kernel
theorem dX1_far_39 : decode cX1_far 39 = .ok (.iload_n 2, 1) := by decide +kernel
theorem dX1_far_40 : decode cX1_far 40 = .ok (.iaload, 1) := by decide +kernel
theorem dX1_far_41 : decode cX1_far 41 = .ok (.isub, 1) := by decide +kernel
theorem dX1_far_42 : decode cX1_far 42 = .ok (.i2l, 1) := by decide +kernel
theorem dX1_far_43 : decode cX1_far 43 = .ok (.lstore 5, 2) := by decide +kernel
theorem dX1_far_45 : decode cX1_far 45 = .ok (.lload_n 3, 1) := by decide +kernel
theorem dX1_far_46 : decode cX1_far 46 = .ok (.lload_n 3, 1) := by decide +kernel
theorem dX1_far_47 : decode cX1_far 47 = .ok (.lmul, 1) := by decide +kernel
theorem dX1_far_48 : decode cX1_far 48 = .ok (.lload 5, 2) := by decide +kernel
theorem dX1_far_50 : decode cX1_far 50 = .ok (.lload 5, 2) := by decide +kernel
theorem dX1_far_52 : decode cX1_far 52 = .ok (.lmul, 1) := by decide +kernel
theorem dX1_far_53 : decode cX1_far 53 = .ok (.ladd, 1) := by decide +kernel
theorem dX1_far_54 : decode cX1_far 54 = .ok (.lreturn, 1) := by decide +kernel
theorem dX1_size_0 : decode cX1_size 0 = .ok (.iconst 0, 1) := by decide +kernel
theorem dX1_size_1 : decode cX1_size 1 = .ok (.istore_n 2, 1) := by decide +kernel
theorem dX1_size_2 : decode cX1_size 2 = .ok (.iconst 0, 1) := by decide +kernel
theorem dX1_size_3 : decode cX1_size 3 = .ok (.istore_n 3, 1) := by decide +kernel
theorem dX1_size_4 : decode cX1_size 4 = .ok (.iload_n 3, 1) := by decide +kernel
theorem dX1_size_5 : decode cX1_size 5 = .ok (.aload_n 0, 1) := by decide +kernel
theorem dX1_size_6 : decode cX1_size 6 = .ok (.getfield 45, 3) := by decide +kernel
theorem dX1_size_9 : decode cX1_size 9 = .ok (.if_icmp .ge 26, 3) := by decide +kernel
theorem dX1_size_12 : decode cX1_size 12 = .ok (.iload_n 1, 1) := by decide +kernel
theorem dX1_size_13 : decode cX1_size 13 = .ok (.ifCond .lt 16, 3) := by decide +kernel
theorem dX1_size_16 : decode cX1_size 16 = .ok (.aload_n 0, 1) := by decide +kernel
theorem dX1_size_17 : decode cX1_size 17 = .ok (.getfield 16, 3) := by decide +kernel
theorem dX1_size_20 : decode cX1_size 20 = .ok (.iload_n 3, 1) := by decide +kernel
theorem dX1_size_21 : decode cX1_size 21 = .ok (.iaload, 1) := by decide +kernel
theorem dX1_size_22 : decode cX1_size 22 = .ok (.iload_n 1, 1) := by decide +kernel
theorem dX1_size_23 : decode cX1_size 23 = .ok (.if_icmp .ne 6, 3) := by decide +kernel
theorem dX1_size_26 : decode cX1_size 26 = .ok (.iinc 2 1, 3) := by decide +kernel
theorem dX1_size_29 : decode cX1_size 29 = .ok (.iinc 3 1, 3) := by decide +kernel
theorem dX1_size_32 : decode cX1_size 32 = .ok (.goto (-28), 3) := by decide +kernel
theorem dX1_size_35 : decode cX1_size 35 = .ok (.iload_n 2, 1) := by decide +kernel
theorem dX1_size_36 : decode cX1_size 36 = .ok (.ireturn, 1) := by decide +kernel
theorem dX1_sum_0 : decode cX1_sum 0 = .ok (.iconst 0, 1) := by decide +kernel
theorem dX1_sum_1 : decode cX1_sum 1 = .ok (.istore_n 3, 1) := by decide +kernel
theorem dX1_sum_2 : decode cX1_sum 2 = .ok (.iconst 0, 1) := by decide +kernel
theorem dX1_sum_3 : decode cX1_sum 3 = .ok (.istore 4, 2) := by decide +kernel
theorem dX1_sum_5 : decode cX1_sum 5 = .ok (.iload 4, 2) := by decide +kernel
theorem dX1_sum_7 : decode cX1_sum 7 = .ok (.aload_n 0, 1) := by decide +kernel
theorem dX1_sum_8 : decode cX1_sum 8 = .ok (.getfield 45, 3) := by decide +kernel
theorem dX1_sum_11 : decode cX1_sum 11 = .ok (.if_icmp .ge 96, 3) := by decide +kernel
theorem dX1_sum_14 : decode cX1_sum 14 = .ok (.iload_n 1, 1) := by decide +kernel
theorem dX1_sum_15 : decode cX1_sum 15 = .ok (.ifCond .lt 86, 3) := by decide +kernel
theorem dX1_sum_18 : decode cX1_sum 18 = .ok (.aload_n 0, 1) := by decide +kernel
theorem dX1_sum_19 : decode cX1_sum 19 = .ok (.getfield 16, 3) := by decide +kernel
theorem dX1_sum_22 : decode cX1_sum 22 = .ok (.iload 4, 2) := by decide +kernel
theorem dX1_sum_24 : decode cX1_sum 24 = .ok (.iaload, 1) := by decide +kernel
theorem dX1_sum_25 : decode cX1_sum 25 = .ok (.iload_n 1, 1) := by decide +kernel
theorem dX1_sum_26 : decode cX1_sum 26 = .ok (.if_icmp .ne 75, 3) := by decide +kernel
theorem dX1_sum_29 : decode cX1_sum 29 = .ok (.iload_n 3, 1) := by decide +kernel
theorem dX1_sum_30 : decode cX1_sum 30 = .ok (.iload_n 2, 1) := by decide +kernel
theorem dX1_sum_31 : decode cX1_sum 31 = .ok (.ifCond .ne 13, 3) := by decide +kernel
theorem dX1_sum_34 : decode cX1_sum 34 = .ok (.aload_n 0, 1) := by decide +kernel
theorem dX1_sum_35 : decode cX1_sum 35 = .ok (.getfield 7, 3) := by decide +kernel
theorem dX1_sum_38 : decode cX1_sum 38 = .ok (.iload 4, 2) := by decide +kernel
theorem dX1_sum_40 : decode cX1_sum 40 = .ok (.iaload, 1) := by decide +kernel
theorem dX1_sum_41 : decode cX1_sum 41 = .ok (.goto 58, 3) := by decide +kernel
theorem dX1_sum_44 : decode cX1_sum 44 = .ok (.iload_n 2, 1) := by decide +kernel
theorem dX1_sum_45 : decode cX1_sum 45 = .ok (.iconst 1, 1) := by decide +kernel
theorem dX1_sum_46 : decode cX1_sum 46 = .ok (.if_icmp .ne 13, 3) := by decide +kernel
theorem dX1_sum_49 : decode cX1_sum 49 = .ok (.aload_n 0, 1) := by decide +kernel
theorem dX1_sum_50 : decode cX1_sum 50 = .ok (.getfield 13, 3) := by decide +kernel
theorem dX1_sum_53 : decode cX1_sum 53 = .ok (.iload 4, 2) := by decide +kernel
theorem dX1_sum_55 : decode cX1_sum 55 = .ok (.iaload, 1) := by decide +kernel
theorem dX1_sum_56 : decode cX1_sum 56 = .ok (.goto 43, 3) := by decide +kernel
theorem dX1_sum_59 : decode cX1_sum 59 = .ok (.iload_n 2, 1) := by decide +kernel
theorem dX1_sum_60 : decode cX1_sum 60 = .ok (.iconst 2, 1) := by decide +kernel
theorem dX1_sum_61 : decode cX1_sum 61 = .ok (.if_icmp .ne 37, 3) := by decide +kernel
theorem dX1_sum_64 : decode cX1_sum 64 = .ok (.aload_n 0, 1) := by decide +kernel
theorem dX1_sum_65 : decode cX1_sum 65 = .ok (.getfield 7, 3) := by decide +kernel
theorem dX1_sum_68 : decode cX1_sum 68 = .ok (.iload 4, 2) := by decide +kernel
theorem dX1_sum_70 : decode cX1_sum 70 = .ok (.iaload, 1) := by decide +kernel
theorem dX1_sum_71 : decode cX1_sum 71 = .ok (.aload_n 0, 1) := by decide +kernel
theorem dX1_sum_72 : decode cX1_sum 72 = .ok (.getfield 7, 3) := by decide +kernel
theorem dX1_sum_75 : decode cX1_sum 75 = .ok (.iload 4, 2) := by decide +kernel
theorem dX1_sum_77 : decode cX1_sum 77 = .ok (.iaload, 1) := by decide +kernel
theorem dX1_sum_78 : decode cX1_sum 78 = .ok (.imul, 1) := by decide +kernel
theorem dX1_sum_79 : decode cX1_sum 79 = .ok (.aload_n 0, 1) := by decide +kernel
theorem dX1_sum_80 : decode cX1_sum 80 = .ok (.getfield 13, 3) := by decide +kernel
theorem dX1_sum_83 : decode cX1_sum 83 = .ok (.iload 4, 2) := by decide +kernel
theorem dX1_sum_85 : decode cX1_sum 85 = .ok (.iaload, 1) := by decide +kernel
theorem dX1_sum_86 : decode cX1_sum 86 = .ok (.aload_n 0, 1) := by decide +kernel
theorem dX1_sum_87 : decode cX1_sum 87 = .ok (.getfield 13, 3) := by decide +kernel
theorem dX1_sum_90 : decode cX1_sum 90 = .ok (.iload 4, 2) := by decide +kernel
theorem dX1_sum_92 : decode cX1_sum 92 = .ok (.iaload, 1) := by decide +kernel
theorem dX1_sum_93 : decode cX1_sum 93 = .ok (.imul, 1) := by decide +kernel
theorem dX1_sum_94 : decode cX1_sum 94 = .ok (.iadd, 1) := by decide +kernel
theorem dX1_sum_95 : decode cX1_sum 95 = .ok (.goto 4, 3) := by decide +kernel
theorem dX1_sum_98 : decode cX1_sum 98 = .ok (.iconst 0, 1) := by decide +kernel
theorem dX1_sum_99 : decode cX1_sum 99 = .ok (.iadd, 1) := by decide +kernel
theorem dX1_sum_100 : decode cX1_sum 100 = .ok (.istore_n 3, 1) := by decide +kernel
theorem dX1_sum_101 : decode cX1_sum 101 = .ok (.iinc 4 1, 3) := by decide +kernel
theorem dX1_sum_104 : decode cX1_sum 104 = .ok (.goto (-99), 3) := by decide +kernel
theorem dX1_sum_107 : decode cX1_sum 107 = .ok (.iload_n 3, 1) := by decide +kernel
theorem dX1_sum_108 : decode cX1_sum 108 = .ok (.ireturn, 1) := by decide +kernel
theorem dX1_settle_0 : decode cX1_settle 0 = .ok (.aload_n 0, 1) := by decide +kernel
theorem dX1_settle_1 : decode cX1_settle 1 = .ok (.invokevirtual 38, 3) := by decide +kernel
theorem dX1_settle_4 : decode cX1_settle 4 = .ok (.iconst 0, 1) := by decide +kernel
theorem dX1_settle_5 : decode cX1_settle 5 = .ok (.istore_n 1, 1) := by decide +kernel
theorem dX1_settle_6 : decode cX1_settle 6 = .ok (.iconst 1, 1) := by decide +kernel
theorem dX1_settle_7 : decode cX1_settle 7 = .ok (.istore_n 2, 1) := by decide +kernel
theorem dX1_settle_8 : decode cX1_settle 8 = .ok (.iload_n 2, 1) := by decide +kernel
theorem dX1_settle_9 : decode cX1_settle 9 = .ok (.ifCond .le 20, 3) := by decide +kernel
theorem dX1_settle_12 : decode cX1_settle 12 = .ok (.iload_n 1, 1) := by decide +kernel
theorem dX1_settle_13 : decode cX1_settle 13 = .ok (.bipush 40, 2) := by decide +kernel
theorem dX1_settle_15 : decode cX1_settle 15 = .ok (.if_icmp .ge 14, 3) := by decide +kernel
theorem dX1_settle_18 : decode cX1_settle 18 = .ok (.aload_n 0, 1) := by decide +kernel
theorem dX1_settle_19 : decode cX1_settle 19 = .ok (.invokevirtual 67, 3) := by decide +kernel
theorem dX1_settle_22 : decode cX1_settle 22 = .ok (.istore_n 2, 1) := by decide +kernel
theorem dX1_settle_23 : decode cX1_settle 23 = .ok (.iinc 1 1, 3) := by decide +kernel
theorem dX1_settle_26 : decode cX1_settle 26 = .ok (.goto (-18), 3) := by decide +kernel
theorem dX1_settle_29 : decode cX1_settle 29 = .ok (.iload_n 1, 1) := by decide +kernel
theorem dX1_settle_30 : decode cX1_settle 30 = .ok (.ireturn, 1) := by decide +kernel
theorem dX1_group_0 : decode cX1_group 0 = .ok (.iload_n 1, 1) := by decide +kernel
theorem dX1_group_1 : decode cX1_group 1 = .ok (.ifCond .lt 11, 3) := by decide +kernel
theorem dX1_group_4 : decode cX1_group 4 = .ok (.iload_n 1, 1) := by decide +kernel
theorem dX1_group_5 : decode cX1_group 5 = .ok (.aload_n 0, 1) := by decide +kernel
theorem dX1_group_6 : decode cX1_group 6 = .ok (.getfield 45, 3) := by decide +kernel
theorem dX1_group_9 : decode cX1_group 9 = .ok (.if_icmp .lt 7, 3) := by decide +kernel
theorem dX1_group_12 : decode cX1_group 12 = .ok (.iconst (-1), 1) := by decide +kernel
theorem dX1_group_13 : decode cX1_group 13 = .ok (.goto 9, 3) := by decide +kernel
theorem dX1_group_16 : decode cX1_group 16 = .ok (.aload_n 0, 1) := by decide +kernel
theorem dX1_group_17 : decode cX1_group 17 = .ok (.getfield 16, 3) := by decide +kernel
theorem dX1_group_20 : decode cX1_group 20 = .ok (.iload_n 1, 1) := by decide +kernel
theorem dX1_group_21 : decode cX1_group 21 = .ok (.iaload, 1) := by decide +kernel
theorem dX1_group_22 : decode cX1_group 22 = .ok (.ireturn, 1) := by decide +kernel
theorem dX1_near_0 : decode cX1_near 0 = .ok (.iload_n 1, 1) := by decide +kernel
theorem dX1_near_1 : decode cX1_near 1 = .ok (.ifCond .lt 11, 3) := by decide +kernel
theorem dX1_near_4 : decode cX1_near 4 = .ok (.iload_n 1, 1) := by decide +kernel
theorem dX1_near_5 : decode cX1_near 5 = .ok (.aload_n 0, 1) := by decide +kernel
theorem dX1_near_6 : decode cX1_near 6 = .ok (.getfield 19, 3) := by decide +kernel
theorem dX1_near_9 : decode cX1_near 9 = .ok (.if_icmp .lt 5, 3) := by decide +kernel
theorem dX1_near_12 : decode cX1_near 12 = .ok (.iconst (-1), 1) := by decide +kernel
theorem dX1_near_13 : decode cX1_near 13 = .ok (.ireturn, 1) := by decide +kernel
theorem dX1_near_14 : decode cX1_near 14 = .ok (.iconst 0, 1) := by decide +kernel
theorem dX1_near_15 : decode cX1_near 15 = .ok (.istore_n 2, 1) := by decide +kernel
theorem dX1_near_16 : decode cX1_near 16 = .ok (.iconst 0, 1) := by decide +kernel
theorem dX1_near_17 : decode cX1_near 17 = .ok (.istore_n 3, 1) := by decide +kernel
theorem dX1_near_18 : decode cX1_near 18 = .ok (.iload_n 3, 1) := by decide +kernel
theorem dX1_near_19 : decode cX1_near 19 = .ok (.aload_n 0, 1) := by decide +kernel
theorem dX1_near_20 : decode cX1_near 20 = .ok (.getfield 45, 3) := by decide +kernel
theorem dX1_near_23 : decode cX1_near 23 = .ok (.if_icmp .ge 30, 3) := by decide +kernel
theorem dX1_near_26 : decode cX1_near 26 = .ok (.aload_n 0, 1) := by decide +kernel
theorem dX1_near_27 : decode cX1_near 27 = .ok (.iload_n 3, 1) := by decide +kernel
theorem dX1_near_28 : decode cX1_near 28 = .ok (.invokevirtual 56, 3) := by decide +kernel
theorem dX1_near_31 : decode cX1_near 31 = .ok (.istore 4, 2) := by decide +kernel
theorem dX1_near_33 : decode cX1_near 33 = .ok (.aload_n 0, 1) := by decide +kernel
theorem dX1_near_34 : decode cX1_near 34 = .ok (.iload_n 3, 1) := by decide +kernel
theorem dX1_near_35 : decode cX1_near 35 = .ok (.iload 4, 2) := by decide +kernel
theorem dX1_near_37 : decode cX1_near 37 = .ok (.iload_n 1, 1) := by decide +kernel
theorem dX1_near_38 : decode cX1_near 38 = .ok (.invokevirtual 52, 3) := by decide +kernel
theorem dX1_near_41 : decode cX1_near 41 = .ok (.ifCond .ne 6, 3) := by decide +kernel
theorem dX1_near_44 : decode cX1_near 44 = .ok (.iinc 2 1, 3) := by decide +kernel
theorem dX1_near_47 : decode cX1_near 47 = .ok (.iinc 3 1, 3) := by decide +kernel
theorem dX1_near_50 : decode cX1_near 50 = .ok (.goto (-32), 3) := by decide +kernel
theorem dX1_near_53 : decode cX1_near 53 = .ok (.iload_n 2, 1) := by decide +kernel
theorem dX1_near_54 : decode cX1_near 54 = .ok (.ireturn, 1) := by decide +kernel
end
section
/-! the law's own entry -/
set_option maxRecDepth 100000
abbrev cL_law : ByteArray := code

theorem dL_law_0 : decode cL_law 0 = .ok (.new 7, 3) := by decide +kernel
theorem dL_law_3 : decode cL_law 3 = .ok (.dup, 1) := by decide +kernel
theorem dL_law_4 : decode cL_law 4 = .ok (.invokespecial 9, 3) := by decide +kernel
theorem dL_law_7 : decode cL_law 7 = .ok (.astore_n 1, 1) := by decide +kernel
theorem dL_law_8 : decode cL_law 8 = .ok (.new 10, 3) := by decide +kernel
theorem dL_law_11 : decode cL_law 11 = .ok (.dup, 1) := by decide +kernel
theorem dL_law_12 : decode cL_law 12 = .ok (.invokespecial 12, 3) := by decide +kernel
theorem dL_law_15 : decode cL_law 15 = .ok (.astore_n 2, 1) := by decide +kernel
theorem dL_law_16 : decode cL_law 16 = .ok (.iconst 0, 1) := by decide +kernel
theorem dL_law_17 : decode cL_law 17 = .ok (.istore_n 3, 1) := by decide +kernel
theorem dL_law_18 : decode cL_law 18 = .ok (.iload_n 3, 1) := by decide +kernel
theorem dL_law_19 : decode cL_law 19 = .ok (.aload_n 0, 1) := by decide +kernel
theorem dL_law_20 : decode cL_law 20 = .ok (.arraylength, 1) := by decide +kernel
theorem dL_law_21 : decode cL_law 21 = .ok (.iconst 4, 1) := by decide +kernel
theorem dL_law_22 : decode cL_law 22 = .ok (.isub, 1) := by decide +kernel
theorem dL_law_23 : decode cL_law 23 = .ok (.if_icmp .gt 334, 3) := by decide +kernel
theorem dL_law_26 : decode cL_law 26 = .ok (.aload_n 0, 1) := by decide +kernel
theorem dL_law_27 : decode cL_law 27 = .ok (.iload_n 3, 1) := by decide +kernel
theorem dL_law_28 : decode cL_law 28 = .ok (.iaload, 1) := by decide +kernel
theorem dL_law_29 : decode cL_law 29 = .ok (.bipush 15, 2) := by decide +kernel
theorem dL_law_31 : decode cL_law 31 = .ok (.iand, 1) := by decide +kernel
theorem dL_law_32 : decode cL_law 32 = .ok (.tableswitch 319 0 10 #[60, 93, 116, 159, 180, 191, 204, 217, 240, 263, 296], 60) := by decide +kernel
theorem dL_law_92 : decode cL_law 92 = .ok (.aload_n 1, 1) := by decide +kernel
theorem dL_law_93 : decode cL_law 93 = .ok (.aload_n 0, 1) := by decide +kernel
theorem dL_law_94 : decode cL_law 94 = .ok (.iload_n 3, 1) := by decide +kernel
theorem dL_law_95 : decode cL_law 95 = .ok (.iconst 1, 1) := by decide +kernel
theorem dL_law_96 : decode cL_law 96 = .ok (.iadd, 1) := by decide +kernel
theorem dL_law_97 : decode cL_law 97 = .ok (.iaload, 1) := by decide +kernel
theorem dL_law_98 : decode cL_law 98 = .ok (.aload_n 0, 1) := by decide +kernel
theorem dL_law_99 : decode cL_law 99 = .ok (.iload_n 3, 1) := by decide +kernel
theorem dL_law_100 : decode cL_law 100 = .ok (.iconst 2, 1) := by decide +kernel
theorem dL_law_101 : decode cL_law 101 = .ok (.iadd, 1) := by decide +kernel
theorem dL_law_102 : decode cL_law 102 = .ok (.iaload, 1) := by decide +kernel
theorem dL_law_103 : decode cL_law 103 = .ok (.invokevirtual 13, 3) := by decide +kernel
theorem dL_law_106 : decode cL_law 106 = .ok (.aload_n 2, 1) := by decide +kernel
theorem dL_law_107 : decode cL_law 107 = .ok (.aload_n 0, 1) := by decide +kernel
theorem dL_law_108 : decode cL_law 108 = .ok (.iload_n 3, 1) := by decide +kernel
theorem dL_law_109 : decode cL_law 109 = .ok (.iconst 1, 1) := by decide +kernel
theorem dL_law_110 : decode cL_law 110 = .ok (.iadd, 1) := by decide +kernel
theorem dL_law_111 : decode cL_law 111 = .ok (.iaload, 1) := by decide +kernel
theorem dL_law_112 : decode cL_law 112 = .ok (.aload_n 0, 1) := by decide +kernel
theorem dL_law_113 : decode cL_law 113 = .ok (.iload_n 3, 1) := by decide +kernel
theorem dL_law_114 : decode cL_law 114 = .ok (.iconst 2, 1) := by decide +kernel
theorem dL_law_115 : decode cL_law 115 = .ok (.iadd, 1) := by decide +kernel
theorem dL_law_116 : decode cL_law 116 = .ok (.iaload, 1) := by decide +kernel
theorem dL_law_117 : decode cL_law 117 = .ok (.invokevirtual 17, 3) := by decide +kernel
theorem dL_law_120 : decode cL_law 120 = .ok (.if_icmp .eq 231, 3) := by decide +kernel
theorem dL_law_123 : decode cL_law 123 = .ok (.iconst 0, 1) := by decide +kernel
theorem dL_law_124 : decode cL_law 124 = .ok (.ireturn, 1) := by decide +kernel
theorem dL_law_125 : decode cL_law 125 = .ok (.aload_n 1, 1) := by decide +kernel
theorem dL_law_126 : decode cL_law 126 = .ok (.aload_n 0, 1) := by decide +kernel
theorem dL_law_127 : decode cL_law 127 = .ok (.iload_n 3, 1) := by decide +kernel
theorem dL_law_128 : decode cL_law 128 = .ok (.iconst 1, 1) := by decide +kernel
theorem dL_law_129 : decode cL_law 129 = .ok (.iadd, 1) := by decide +kernel
theorem dL_law_130 : decode cL_law 130 = .ok (.iaload, 1) := by decide +kernel
theorem dL_law_131 : decode cL_law 131 = .ok (.invokevirtual 18, 3) := by decide +kernel
theorem dL_law_134 : decode cL_law 134 = .ok (.aload_n 2, 1) := by decide +kernel
theorem dL_law_135 : decode cL_law 135 = .ok (.aload_n 0, 1) := by decide +kernel
theorem dL_law_136 : decode cL_law 136 = .ok (.iload_n 3, 1) := by decide +kernel
theorem dL_law_137 : decode cL_law 137 = .ok (.iconst 1, 1) := by decide +kernel
theorem dL_law_138 : decode cL_law 138 = .ok (.iadd, 1) := by decide +kernel
theorem dL_law_139 : decode cL_law 139 = .ok (.iaload, 1) := by decide +kernel
theorem dL_law_140 : decode cL_law 140 = .ok (.invokevirtual 22, 3) := by decide +kernel
theorem dL_law_143 : decode cL_law 143 = .ok (.if_icmp .eq 208, 3) := by decide +kernel
theorem dL_law_146 : decode cL_law 146 = .ok (.iconst 0, 1) := by decide +kernel
theorem dL_law_147 : decode cL_law 147 = .ok (.ireturn, 1) := by decide +kernel
theorem dL_law_148 : decode cL_law 148 = .ok (.aload_n 1, 1) := by decide +kernel
theorem dL_law_149 : decode cL_law 149 = .ok (.aload_n 0, 1) := by decide +kernel
theorem dL_law_150 : decode cL_law 150 = .ok (.iload_n 3, 1) := by decide +kernel
theorem dL_law_151 : decode cL_law 151 = .ok (.iconst 1, 1) := by decide +kernel
theorem dL_law_152 : decode cL_law 152 = .ok (.iadd, 1) := by decide +kernel
theorem dL_law_153 : decode cL_law 153 = .ok (.iaload, 1) := by decide +kernel
theorem dL_law_154 : decode cL_law 154 = .ok (.aload_n 0, 1) := by decide +kernel
theorem dL_law_155 : decode cL_law 155 = .ok (.iload_n 3, 1) := by decide +kernel
theorem dL_law_156 : decode cL_law 156 = .ok (.iconst 2, 1) := by decide +kernel
theorem dL_law_157 : decode cL_law 157 = .ok (.iadd, 1) := by decide +kernel
theorem dL_law_158 : decode cL_law 158 = .ok (.iaload, 1) := by decide +kernel
theorem dL_law_159 : decode cL_law 159 = .ok (.aload_n 0, 1) := by decide +kernel
theorem dL_law_160 : decode cL_law 160 = .ok (.iload_n 3, 1) := by decide +kernel
theorem dL_law_161 : decode cL_law 161 = .ok (.iconst 3, 1) := by decide +kernel
theorem dL_law_162 : decode cL_law 162 = .ok (.iadd, 1) := by decide +kernel
theorem dL_law_163 : decode cL_law 163 = .ok (.iaload, 1) := by decide +kernel
theorem dL_law_164 : decode cL_law 164 = .ok (.invokevirtual 23, 3) := by decide +kernel
theorem dL_law_167 : decode cL_law 167 = .ok (.aload_n 2, 1) := by decide +kernel
theorem dL_law_168 : decode cL_law 168 = .ok (.aload_n 0, 1) := by decide +kernel
theorem dL_law_169 : decode cL_law 169 = .ok (.iload_n 3, 1) := by decide +kernel
theorem dL_law_170 : decode cL_law 170 = .ok (.iconst 1, 1) := by decide +kernel
theorem dL_law_171 : decode cL_law 171 = .ok (.iadd, 1) := by decide +kernel
theorem dL_law_172 : decode cL_law 172 = .ok (.iaload, 1) := by decide +kernel
theorem dL_law_173 : decode cL_law 173 = .ok (.aload_n 0, 1) := by decide +kernel
theorem dL_law_174 : decode cL_law 174 = .ok (.iload_n 3, 1) := by decide +kernel
theorem dL_law_175 : decode cL_law 175 = .ok (.iconst 2, 1) := by decide +kernel
theorem dL_law_176 : decode cL_law 176 = .ok (.iadd, 1) := by decide +kernel
theorem dL_law_177 : decode cL_law 177 = .ok (.iaload, 1) := by decide +kernel
theorem dL_law_178 : decode cL_law 178 = .ok (.aload_n 0, 1) := by decide +kernel
theorem dL_law_179 : decode cL_law 179 = .ok (.iload_n 3, 1) := by decide +kernel
theorem dL_law_180 : decode cL_law 180 = .ok (.iconst 3, 1) := by decide +kernel
theorem dL_law_181 : decode cL_law 181 = .ok (.iadd, 1) := by decide +kernel
theorem dL_law_182 : decode cL_law 182 = .ok (.iaload, 1) := by decide +kernel
theorem dL_law_183 : decode cL_law 183 = .ok (.invokevirtual 27, 3) := by decide +kernel
theorem dL_law_186 : decode cL_law 186 = .ok (.if_icmp .eq 165, 3) := by decide +kernel
theorem dL_law_189 : decode cL_law 189 = .ok (.iconst 0, 1) := by decide +kernel
theorem dL_law_190 : decode cL_law 190 = .ok (.ireturn, 1) := by decide +kernel
theorem dL_law_191 : decode cL_law 191 = .ok (.aload_n 1, 1) := by decide +kernel
theorem dL_law_192 : decode cL_law 192 = .ok (.aload_n 0, 1) := by decide +kernel
theorem dL_law_193 : decode cL_law 193 = .ok (.iload_n 3, 1) := by decide +kernel
theorem dL_law_194 : decode cL_law 194 = .ok (.iconst 1, 1) := by decide +kernel
theorem dL_law_195 : decode cL_law 195 = .ok (.iadd, 1) := by decide +kernel
theorem dL_law_196 : decode cL_law 196 = .ok (.iaload, 1) := by decide +kernel
theorem dL_law_197 : decode cL_law 197 = .ok (.invokevirtual 28, 3) := by decide +kernel
theorem dL_law_200 : decode cL_law 200 = .ok (.aload_n 2, 1) := by decide +kernel
theorem dL_law_201 : decode cL_law 201 = .ok (.aload_n 0, 1) := by decide +kernel
theorem dL_law_202 : decode cL_law 202 = .ok (.iload_n 3, 1) := by decide +kernel
theorem dL_law_203 : decode cL_law 203 = .ok (.iconst 1, 1) := by decide +kernel
theorem dL_law_204 : decode cL_law 204 = .ok (.iadd, 1) := by decide +kernel
theorem dL_law_205 : decode cL_law 205 = .ok (.iaload, 1) := by decide +kernel
theorem dL_law_206 : decode cL_law 206 = .ok (.invokevirtual 32, 3) := by decide +kernel
theorem dL_law_209 : decode cL_law 209 = .ok (.goto 142, 3) := by decide +kernel
theorem dL_law_212 : decode cL_law 212 = .ok (.aload_n 1, 1) := by decide +kernel
theorem dL_law_213 : decode cL_law 213 = .ok (.invokevirtual 33, 3) := by decide +kernel
theorem dL_law_216 : decode cL_law 216 = .ok (.aload_n 2, 1) := by decide +kernel
theorem dL_law_217 : decode cL_law 217 = .ok (.invokevirtual 36, 3) := by decide +kernel
theorem dL_law_220 : decode cL_law 220 = .ok (.goto 131, 3) := by decide +kernel
theorem dL_law_223 : decode cL_law 223 = .ok (.aload_n 1, 1) := by decide +kernel
theorem dL_law_224 : decode cL_law 224 = .ok (.invokevirtual 37, 3) := by decide +kernel
theorem dL_law_227 : decode cL_law 227 = .ok (.aload_n 2, 1) := by decide +kernel
theorem dL_law_228 : decode cL_law 228 = .ok (.invokevirtual 41, 3) := by decide +kernel
theorem dL_law_231 : decode cL_law 231 = .ok (.if_icmp .eq 120, 3) := by decide +kernel
theorem dL_law_234 : decode cL_law 234 = .ok (.iconst 0, 1) := by decide +kernel
theorem dL_law_235 : decode cL_law 235 = .ok (.ireturn, 1) := by decide +kernel
theorem dL_law_236 : decode cL_law 236 = .ok (.aload_n 1, 1) := by decide +kernel
theorem dL_law_237 : decode cL_law 237 = .ok (.invokevirtual 42, 3) := by decide +kernel
theorem dL_law_240 : decode cL_law 240 = .ok (.aload_n 2, 1) := by decide +kernel
theorem dL_law_241 : decode cL_law 241 = .ok (.invokevirtual 45, 3) := by decide +kernel
theorem dL_law_244 : decode cL_law 244 = .ok (.if_icmp .eq 107, 3) := by decide +kernel
theorem dL_law_247 : decode cL_law 247 = .ok (.iconst 0, 1) := by decide +kernel
theorem dL_law_248 : decode cL_law 248 = .ok (.ireturn, 1) := by decide +kernel
theorem dL_law_249 : decode cL_law 249 = .ok (.aload_n 1, 1) := by decide +kernel
theorem dL_law_250 : decode cL_law 250 = .ok (.aload_n 0, 1) := by decide +kernel
theorem dL_law_251 : decode cL_law 251 = .ok (.iload_n 3, 1) := by decide +kernel
theorem dL_law_252 : decode cL_law 252 = .ok (.iconst 1, 1) := by decide +kernel
theorem dL_law_253 : decode cL_law 253 = .ok (.iadd, 1) := by decide +kernel
theorem dL_law_254 : decode cL_law 254 = .ok (.iaload, 1) := by decide +kernel
theorem dL_law_255 : decode cL_law 255 = .ok (.invokevirtual 46, 3) := by decide +kernel
theorem dL_law_258 : decode cL_law 258 = .ok (.aload_n 2, 1) := by decide +kernel
theorem dL_law_259 : decode cL_law 259 = .ok (.aload_n 0, 1) := by decide +kernel
theorem dL_law_260 : decode cL_law 260 = .ok (.iload_n 3, 1) := by decide +kernel
theorem dL_law_261 : decode cL_law 261 = .ok (.iconst 1, 1) := by decide +kernel
theorem dL_law_262 : decode cL_law 262 = .ok (.iadd, 1) := by decide +kernel
theorem dL_law_263 : decode cL_law 263 = .ok (.iaload, 1) := by decide +kernel
theorem dL_law_264 : decode cL_law 264 = .ok (.invokevirtual 49, 3) := by decide +kernel
theorem dL_law_267 : decode cL_law 267 = .ok (.if_icmp .eq 84, 3) := by decide +kernel
theorem dL_law_270 : decode cL_law 270 = .ok (.iconst 0, 1) := by decide +kernel
theorem dL_law_271 : decode cL_law 271 = .ok (.ireturn, 1) := by decide +kernel
theorem dL_law_272 : decode cL_law 272 = .ok (.aload_n 1, 1) := by decide +kernel
theorem dL_law_273 : decode cL_law 273 = .ok (.aload_n 0, 1) := by decide +kernel
theorem dL_law_274 : decode cL_law 274 = .ok (.iload_n 3, 1) := by decide +kernel
theorem dL_law_275 : decode cL_law 275 = .ok (.iconst 1, 1) := by decide +kernel
theorem dL_law_276 : decode cL_law 276 = .ok (.iadd, 1) := by decide +kernel
theorem dL_law_277 : decode cL_law 277 = .ok (.iaload, 1) := by decide +kernel
theorem dL_law_278 : decode cL_law 278 = .ok (.invokevirtual 50, 3) := by decide +kernel
theorem dL_law_281 : decode cL_law 281 = .ok (.aload_n 2, 1) := by decide +kernel
theorem dL_law_282 : decode cL_law 282 = .ok (.aload_n 0, 1) := by decide +kernel
theorem dL_law_283 : decode cL_law 283 = .ok (.iload_n 3, 1) := by decide +kernel
theorem dL_law_284 : decode cL_law 284 = .ok (.iconst 1, 1) := by decide +kernel
theorem dL_law_285 : decode cL_law 285 = .ok (.iadd, 1) := by decide +kernel
theorem dL_law_286 : decode cL_law 286 = .ok (.iaload, 1) := by decide +kernel
theorem dL_law_287 : decode cL_law 287 = .ok (.invokevirtual 53, 3) := by decide +kernel
theorem dL_law_290 : decode cL_law 290 = .ok (.if_icmp .eq 61, 3) := by decide +kernel
theorem dL_law_293 : decode cL_law 293 = .ok (.iconst 0, 1) := by decide +kernel
theorem dL_law_294 : decode cL_law 294 = .ok (.ireturn, 1) := by decide +kernel
theorem dL_law_295 : decode cL_law 295 = .ok (.aload_n 1, 1) := by decide +kernel
theorem dL_law_296 : decode cL_law 296 = .ok (.aload_n 0, 1) := by decide +kernel
theorem dL_law_297 : decode cL_law 297 = .ok (.iload_n 3, 1) := by decide +kernel
theorem dL_law_298 : decode cL_law 298 = .ok (.iconst 1, 1) := by decide +kernel
theorem dL_law_299 : decode cL_law 299 = .ok (.iadd, 1) := by decide +kernel
theorem dL_law_300 : decode cL_law 300 = .ok (.iaload, 1) := by decide +kernel
theorem dL_law_301 : decode cL_law 301 = .ok (.aload_n 0, 1) := by decide +kernel
theorem dL_law_302 : decode cL_law 302 = .ok (.iload_n 3, 1) := by decide +kernel
theorem dL_law_303 : decode cL_law 303 = .ok (.iconst 2, 1) := by decide +kernel
theorem dL_law_304 : decode cL_law 304 = .ok (.iadd, 1) := by decide +kernel
theorem dL_law_305 : decode cL_law 305 = .ok (.iaload, 1) := by decide +kernel
theorem dL_law_306 : decode cL_law 306 = .ok (.invokevirtual 54, 3) := by decide +kernel
theorem dL_law_309 : decode cL_law 309 = .ok (.aload_n 2, 1) := by decide +kernel
theorem dL_law_310 : decode cL_law 310 = .ok (.aload_n 0, 1) := by decide +kernel
theorem dL_law_311 : decode cL_law 311 = .ok (.iload_n 3, 1) := by decide +kernel
theorem dL_law_312 : decode cL_law 312 = .ok (.iconst 1, 1) := by decide +kernel
theorem dL_law_313 : decode cL_law 313 = .ok (.iadd, 1) := by decide +kernel
theorem dL_law_314 : decode cL_law 314 = .ok (.iaload, 1) := by decide +kernel
theorem dL_law_315 : decode cL_law 315 = .ok (.aload_n 0, 1) := by decide +kernel
theorem dL_law_316 : decode cL_law 316 = .ok (.iload_n 3, 1) := by decide +kernel
theorem dL_law_317 : decode cL_law 317 = .ok (.iconst 2, 1) := by decide +kernel
theorem dL_law_318 : decode cL_law 318 = .ok (.iadd, 1) := by decide +kernel
theorem dL_law_319 : decode cL_law 319 = .ok (.iaload, 1) := by decide +kernel
theorem dL_law_320 : decode cL_law 320 = .ok (.invokevirtual 57, 3) := by decide +kernel
theorem dL_law_323 : decode cL_law 323 = .ok (.if_icmp .eq 28, 3) := by decide +kernel
theorem dL_law_326 : decode cL_law 326 = .ok (.iconst 0, 1) := by decide +kernel
theorem dL_law_327 : decode cL_law 327 = .ok (.ireturn, 1) := by decide +kernel
theorem dL_law_328 : decode cL_law 328 = .ok (.aload_n 1, 1) := by decide +kernel
theorem dL_law_329 : decode cL_law 329 = .ok (.aload_n 0, 1) := by decide +kernel
theorem dL_law_330 : decode cL_law 330 = .ok (.iload_n 3, 1) := by decide +kernel
theorem dL_law_331 : decode cL_law 331 = .ok (.iconst 1, 1) := by decide +kernel
theorem dL_law_332 : decode cL_law 332 = .ok (.iadd, 1) := by decide +kernel
theorem dL_law_333 : decode cL_law 333 = .ok (.iaload, 1) := by decide +kernel
theorem dL_law_334 : decode cL_law 334 = .ok (.invokevirtual 58, 3) := by decide +kernel
theorem dL_law_337 : decode cL_law 337 = .ok (.aload_n 2, 1) := by decide +kernel
theorem dL_law_338 : decode cL_law 338 = .ok (.aload_n 0, 1) := by decide +kernel
theorem dL_law_339 : decode cL_law 339 = .ok (.iload_n 3, 1) := by decide +kernel
theorem dL_law_340 : decode cL_law 340 = .ok (.iconst 1, 1) := by decide +kernel
theorem dL_law_341 : decode cL_law 341 = .ok (.iadd, 1) := by decide +kernel
theorem dL_law_342 : decode cL_law 342 = .ok (.iaload, 1) := by decide +kernel
theorem dL_law_343 : decode cL_law 343 = .ok (.invokevirtual 61, 3) := by decide +kernel
theorem dL_law_346 : decode cL_law 346 = .ok (.if_icmp .eq 5, 3) := by decide +kernel
theorem dL_law_349 : decode cL_law 349 = .ok (.iconst 0, 1) := by decide +kernel
theorem dL_law_350 : decode cL_law 350 = .ok (.ireturn, 1) := by decide +kernel
theorem dL_law_351 : decode cL_law 351 = .ok (.iinc 3 4, 3) := by decide +kernel
theorem dL_law_354 : decode cL_law 354 = .ok (.goto (-336), 3) := by decide +kernel
theorem dL_law_357 : decode cL_law 357 = .ok (.iconst 1, 1) := by decide +kernel
theorem dL_law_358 : decode cL_law 358 = .ok (.ireturn, 1) := by decide +kernel
end
section
/-! the generic layer: a walk's context (mg_cx), its world (mg_wd), contracts' start and end (mg_pre, mg_bk), calls -/
abbrev vwCl : List vw_C := [(RX0, TX0, 16), (RX1, TX1, 10)]
abbrev AR : Type := Nat → Int32
abbrev mg_T : Type := List (ClassId × FieldType)
def mg_cx (p : Program) (s : State) (m : MethodId) (args : Array Value) (meth : Method) (c : Code) (cc : ByteArray) (ret : Option FieldType) (nL : Nat) (own : String) (A : Nat → Prop) : Prop :=
  p.tables.exec = Jvm.exec ∧ c.code = cc ∧ meth.sig.returnType = ret ∧ c.maxLocals = nL ∧ s.vm.findClass own = some m.cls ∧ (∀ w ∈ lw_all, w.before args s = true) ∧ meth.locks = false ∧ ∀ q : Nat, s.heap.size ≤ q → A q
def mg_wd (D : va_G) (tys : mg_T) (A : Nat → Prop) (s : State) (ws : va_W) (H : Heap) (locs : List Loc) : Prop :=
  va_K D vwCl tys s ∧ va_P D vwCl ws H ∧ va_D A ws ∧ va_S A s.heap H locs
def mg_pre (D : va_G) (tys : mg_T) (w : va_W) (sz : Nat) (U : State) : Prop := U.heap.size = sz ∧ va_P D vwCl w U.heap ∧ va_K D vwCl tys U ∧ va_D (fun _ => True) w
def mg_bk {S : Type} (D : va_G) (tys : mg_T) (w' : S → va_W) (A : Nat → Prop) (u : S) (t : State) : Prop := va_P D vwCl (w' u) t.heap ∧ va_K D vwCl tys t ∧ va_D A (w' u)
/-- what a call brings back: the callee's world w has become w1 -/
def mg_bw (D : va_G) (tys : mg_T) (A : Nat → Prop) (s : State) (w w1 : va_W) (H H1 : Heap) (locs1 : List Loc) : Prop :=
  va_K D vwCl tys s ∧ va_P D vwCl w1 H1 ∧ va_D (va_A w H.size) w1 ∧ (∀ q : Nat, q < H.size → ¬ va_A w H.size q → H1[q]? = H[q]?) ∧ va_S A s.heap H1 locs1
theorem mg_apl {w w2 : va_W} {k : Nat} {q : Nat × va_E} (h : w[k]? = some q) : (w ++ w2)[k]? = some q := by
  rw [List.getElem?_append_left (List.getElem?_eq_some_iff.mp h).1]; exact h
theorem mg_apr {w w2 : va_W} {k : Nat} {q : Nat × va_E} (h : w2[k]? = some q) : (w ++ w2)[w.length + k]? = some q := by
  rw [List.getElem?_append_right (by omega)]
  rw [show w.length + k - w.length = k by omega]; exact h
section GB
variable {p : Program} {l : Launch} {e : Env} {R : Room} {s : State} {m : MethodId} {args : Array Value} {below : List Frame} {meth : Method} {c : Code} {H H1 : Heap} {locs locs1 : List Loc} {cells slots : Nat} {Q : State → Prop}
variable {cc : ByteArray} {ret : Option FieldType} {nL : Nat} {own : String} {A : Nat → Prop} {D : va_G} {tys : mg_T} {w w1 w2 ws : va_W} {pc : Nat} {ls : Array Slot} {rest st0 : List Value}
theorem mg_free (C : mg_cx p s m args meth c cc ret nL own A) (G : mg_wd D tys A s w H locs) : ∀ q, va_A w H.size q → A q := by
  obtain ⟨hx, hb, hr, hml, hown, hts, hlk, hA⟩ := C
  obtain ⟨hK, hP, hD, hS⟩ := G
  intro q h
  rcases h with ⟨k, e, h⟩ | h
  · exact hD.2 k (q, e) h
  · exact hA q (Nat.le_trans hS.1 h)
theorem mg_whole (C : mg_cx p s m args meth c cc ret nL own A) (G : mg_wd D tys A s w H locs) (B : mg_bw D tys A s w w1 H H1 locs1) : mg_wd D tys A s w1 H1 locs1 :=
  ⟨B.1, B.2.1, B.2.2.1.weaken (fun k q _ h => mg_free C G q.1 h), B.2.2.2.2⟩
theorem mg_cut1 (G : mg_wd D tys A s (w ++ w2) H locs) : mg_wd D tys A s w H locs := by
  obtain ⟨hK, hP, hD, hS⟩ := G
  exact ⟨hK, fun k q h => hP k q (mg_apl h), ⟨fun i j x y hi hj h => hD.1 i j x y (mg_apl hi) (mg_apl hj) h, fun k q h => hD.2 k q (mg_apl h)⟩, hS⟩
theorem mg_cut2 (G : mg_wd D tys A s (w2 ++ w) H locs) : mg_wd D tys A s w H locs := by
  obtain ⟨hK, hP, hD, hS⟩ := G
  refine ⟨hK, fun k q h => hP _ q (mg_apr h), ⟨fun i j x y hi hj h => ?_, fun k q h => hD.2 _ q (mg_apr h)⟩, hS⟩
  have := hD.1 _ _ x y (mg_apr hi) (mg_apr hj) h
  omega
theorem mg_left (C : mg_cx p s m args meth c cc ret nL own A) (G : mg_wd D tys A s (w ++ w2) H locs) (B : mg_bw D tys A s w w1 H H1 locs1) : mg_wd D tys A s (w1 ++ w2) H1 locs1 := by
  have hF := mg_free C (mg_cut1 G)
  have G2 := mg_cut2 G
  obtain ⟨hK, hP, hD, hS⟩ := G
  obtain ⟨bK, bP, bD, bk, bS⟩ := B
  have key : ∀ (k : Nat) (q : Nat × va_E), w2[k]? = some q → q.1 < H.size ∧ ¬ va_A w H.size q.1 := by
    intro k q hq
    have hl := (hP _ q (mg_apr hq)).lt
    refine ⟨hl, fun h => ?_⟩
    rcases h with ⟨j, e, h⟩ | h
    · have h1 := (List.getElem?_eq_some_iff.mp h).1
      have := hD.1 _ _ (q.1, e) q (mg_apl h) (mg_apr hq) rfl
      omega
    · omega
  refine ⟨bK, bP.app (fun k q hq => (G2.2.1 k q hq).kept (bk q.1 (key k q hq).1 (key k q hq).2)), va_D.app (bD.weaken (fun k q _ h => hF q.1 h)) G2.2.2.1 (fun i j x y hi hj h => (key j y hj).2 ?_), bS⟩
  rw [← h]
  exact bD.2 i x hi
theorem mg_right (C : mg_cx p s m args meth c cc ret nL own A) (G : mg_wd D tys A s (w2 ++ w) H locs) (B : mg_bw D tys A s w w1 H H1 locs1) : mg_wd D tys A s (w2 ++ w1) H1 locs1 := by
  have hF := mg_free C (mg_cut2 G)
  have G2 := mg_cut1 G
  obtain ⟨hK, hP, hD, hS⟩ := G
  obtain ⟨bK, bP, bD, bk, bS⟩ := B
  have key : ∀ (k : Nat) (q : Nat × va_E), w2[k]? = some q → q.1 < H.size ∧ ¬ va_A w H.size q.1 := by
    intro k q hq
    have hl := (hP _ q (mg_apl hq)).lt
    refine ⟨hl, fun h => ?_⟩
    rcases h with ⟨j, e, h⟩ | h
    · have h1 := (List.getElem?_eq_some_iff.mp hq).1
      have := hD.1 _ _ (q.1, e) q (mg_apr h) (mg_apl hq) rfl
      omega
    · omega
  refine ⟨bK, va_P.app (fun k q hq => (G2.2.1 k q hq).kept (bk q.1 (key k q hq).1 (key k q hq).2)) bP, va_D.app G2.2.2.1 (bD.weaken (fun k q _ h => hF q.1 h)) (fun i j x y hi hj h => (key i x hi).2 ?_), bS⟩
  rw [h]
  exact bD.2 j y hj
theorem mg_blind {argl : List Value} {sz : Nat} : FrameBlind (va_Pc argl (mg_pre D tys w sz)) := fun a U g mk q => by
  obtain ⟨q0, q1, qP, qK, qD⟩ := q
  exact ⟨q0, q1, qP, va_K.moved (u := U) (U := U.calling g mk a) (Vm.Alike.refl U.vm) qK, qD⟩
theorem mg_preOf {argl : List Value} (G : mg_wd D tys A s w H locs) : ∀ U : State, U.heap = H → s.WarmedH U.vm → va_Pc argl (mg_pre D tys w H.size) argl.toArray U := fun U hU hW => ⟨rfl, by rw [hU], by rw [hU]; exact G.2.1, va_K.moved hW.alike G.1, G.2.2.1.weaken (fun _ _ _ _ => trivial)⟩
theorem mg_ci {S : Type} {post : Int32 → S → Prop} {w' : S → va_W} {av : Array Value} {mc ms : Nat} (hr : va_Run p l e R s m args below meth c H locs cells slots mc ms (F0 m pc ls st0) rest (va_Qi post (mg_bk D tys w' (va_A w H.size)) (va_A w H.size) av) (va_A w H.size)) (hS : va_S A s.heap H locs) (hF : ∀ q, va_A w H.size q → A q)
    (kk : ∀ (r : Int32) (u : S) (H1 : Heap) (locs1 : List Loc), post r u → mg_bw D tys A s w (w' u) H H1 locs1 → W p l e R s m args below meth c H1 locs1 (cells + mc) (slots + ms) Q (F0 m (pc + 3) ls (.int r :: rest))) : W p l e R s m args below meth c H locs cells slots Q (F0 m pc ls st0) := by
  refine va_calli hr hS (fun q _ h => hF q h) hF (fun r u t H1 locs1 ht hvm hw hB hz hk hS1 => ?_)
  obtain ⟨hP1, hK1, hD1⟩ := hB
  rw [ht] at hP1
  exact kk r u H1 locs1 hw ⟨va_K.moved hvm.symm hK1, hP1, hD1, hk, hS1⟩
theorem mg_cl {S : Type} {post : Int64 → S → Prop} {w' : S → va_W} {av : Array Value} {mc ms : Nat} (hr : va_Run p l e R s m args below meth c H locs cells slots mc ms (F0 m pc ls st0) rest (va_Ql post (mg_bk D tys w' (va_A w H.size)) (va_A w H.size) av) (va_A w H.size)) (hS : va_S A s.heap H locs) (hF : ∀ q, va_A w H.size q → A q)
    (kk : ∀ (r : Int64) (u : S) (H1 : Heap) (locs1 : List Loc), post r u → mg_bw D tys A s w (w' u) H H1 locs1 → W p l e R s m args below meth c H1 locs1 (cells + mc) (slots + ms) Q (F0 m (pc + 3) ls (.long r :: rest))) : W p l e R s m args below meth c H locs cells slots Q (F0 m pc ls st0) := by
  refine va_calll hr hS (fun q _ h => hF q h) hF (fun r u t H1 locs1 ht hvm hw hB hz hk hS1 => ?_)
  obtain ⟨hP1, hK1, hD1⟩ := hB
  rw [ht] at hP1
  exact kk r u H1 locs1 hw ⟨va_K.moved hvm.symm hK1, hP1, hD1, hk, hS1⟩
theorem mg_cv {S : Type} {post : S → Prop} {w' : S → va_W} {av : Array Value} {mc ms : Nat} (hr : va_Run p l e R s m args below meth c H locs cells slots mc ms (F0 m pc ls st0) rest (va_Qv post (mg_bk D tys w' (va_A w H.size)) (va_A w H.size) av) (va_A w H.size)) (hS : va_S A s.heap H locs) (hF : ∀ q, va_A w H.size q → A q)
    (kk : ∀ (u : S) (H1 : Heap) (locs1 : List Loc), post u → mg_bw D tys A s w (w' u) H H1 locs1 → W p l e R s m args below meth c H1 locs1 (cells + mc) (slots + ms) Q (F0 m (pc + 3) ls rest)) : W p l e R s m args below meth c H locs cells slots Q (F0 m pc ls st0) := by
  refine va_callv hr hS (fun q _ h => hF q h) hF (fun u t H1 locs1 ht hvm hw hB hz hk hS1 => ?_)
  obtain ⟨hP1, hK1, hD1⟩ := hB
  rw [ht] at hP1
  exact kk u H1 locs1 hw ⟨va_K.moved hvm.symm hK1, hP1, hD1, hk, hS1⟩
theorem mg_runV {y : MethodName} {bytes : ByteArray} {maxL n index ci b : Nat} {rt : Option FieldType} {rm : Room} {Cn : String} {As : List Value} {q : vw_C} {fs : List Value} {Qc : Array Value → State → Outcome → State → Prop} {free : Addr → Prop} (C : mg_cx p s m args meth c cc ret nL own A) (G : mg_wd D tys A s w H locs)
    (hM : Met l y (ws_ y bytes maxL rt) rm (va_Pc (.ref b :: As) (mg_pre D tys w H.size)) Qc 0 0 free) (cw : CallW R s args own Cn index y bytes maxL rt (ws_ y bytes maxL rt) rm 0 0 n) (hc : vwCl[ci]? = some q) (hq : q.1 = Cn) (he : w[0]? = some (b, .inr (ci, fs))) (hn : As.length = n) (hsz : ls.size = nL) (hst : st0 = As.reverse ++ .ref b :: rest) (hrm : (rest.map fun v => v.category).sum ≤ 8) (hdg : decode cc pc = .ok (.invokevirtual index, 3)) (hf : cells ≤ R.cells ∧ slots ≤ R.slots) :
    va_Run p l e R s m args below meth c H locs cells slots 0 0 (F0 m pc ls st0) rest (Qc (Value.ref b :: As).toArray) free := by
  obtain ⟨hx, hb, hr, hml, hown, hts, hlk, hA⟩ := C
  subst hq
  exact va_runV ⟨hx, hb, hml, hown, hts⟩ hM cw ⟨mg_blind, va_recv G.1 G.2.1 hc he, mg_preOf G⟩ rfl hn hsz hst (lv_room hrm) hdg hf
theorem mg_runS {y : MethodName} {bytes : ByteArray} {maxL n index : Nat} {rt : Option FieldType} {rm : Room} {As : List Value} {Qc : Array Value → State → Outcome → State → Prop} {free : Addr → Prop} (C : mg_cx p s m args meth c cc ret nL own A) (G : mg_wd D tys A s w H locs)
    (hM : Met l y (ws_ y bytes maxL rt) rm (va_Pc As (mg_pre D tys w H.size)) Qc 0 0 free) (cw : CallB R s args own index y bytes maxL rt (ws_ y bytes maxL rt) rm 0 0 n ∧ (Cond.static y).before args s = true) (hn : As.length = n) (hsz : ls.size = nL) (hst : st0 = As.reverse ++ rest) (hrm : (rest.map fun v => v.category).sum ≤ 8) (hdg : decode cc pc = .ok (.invokestatic index, 3)) (hf : cells ≤ R.cells ∧ slots ≤ R.slots) :
    va_Run p l e R s m args below meth c H locs cells slots 0 0 (F0 m pc ls st0) rest (Qc As.toArray) free := by
  obtain ⟨hx, hb, hr, hml, hown, hts, hlk, hA⟩ := C
  exact va_runS ⟨hx, hb, hml, hown, hts⟩ hM cw ⟨mg_blind, mg_preOf G⟩ rfl hn hsz hst (lv_room hrm) hdg hf
theorem mg_runI {y : MethodName} {bytes : ByteArray} {maxL n index b mc ms : Nat} {rm : Room} {As : List Value} {Qc : Array Value → State → Outcome → State → Prop} {free : Addr → Prop} (C : mg_cx p s m args meth c cc ret nL own A) (G : mg_wd D tys A s w H locs)
    (hM : Met l y (ws_ y bytes maxL none) rm (va_Pc (.ref b :: As) (mg_pre D tys w H.size)) Qc mc ms free) (cw : CallB R s args own index y bytes maxL none (ws_ y bytes maxL none) rm mc ms n ∧ y.name = "<init>" ∧ (Cond.instanceMethod y).before args s = true) (hn : As.length = n) (hsz : ls.size = nL) (hst : st0 = As.reverse ++ .ref b :: rest) (hrm : (rest.map fun v => v.category).sum ≤ 8) (hdg : decode cc pc = .ok (.invokespecial index, 3)) (hf : cells + mc ≤ R.cells ∧ slots + ms ≤ R.slots) :
    va_Run p l e R s m args below meth c H locs cells slots mc ms (F0 m pc ls st0) rest (Qc (Value.ref b :: As).toArray) free := by
  obtain ⟨hx, hb, hr, hml, hown, hts, hlk, hA⟩ := C
  exact va_runI ⟨hx, hb, hml, hown, hts⟩ hM cw ⟨mg_blind, mg_preOf G⟩ rfl hn hsz hst (lv_room hrm) hdg hf
theorem mg_iret {S : Type} {post : Int32 → S → Prop} {w' : S → va_W} (C : mg_cx p s m args meth c cc (some .int) nL own A) (u : S) (G : mg_wd D tys A s (w' u) H locs) {v : Int32} (hp : post v u) (hdg : decode cc pc = .ok (.ireturn, 1)) : W p l e R s m args below meth c H locs cells slots (MQ below (va_Qi post (mg_bk D tys w' A) A) args s cells slots A) (F0 m pc ls [.int v]) := by
  obtain ⟨hx, hb, hr, hml, hown, hts, hlk, hA⟩ := C
  obtain ⟨hK, hP, hD, hS⟩ := G
  exact W.iret (v := v) hx hb hr (fun t ht hW => ⟨⟨v, u, rfl, hp, by rw [ht]; exact hP, va_K.moved hW.alike hK, hD⟩, hS.F ht⟩) hS.2.2 hdg
theorem mg_zret {S : Type} {post : Int32 → S → Prop} {w' : S → va_W} (C : mg_cx p s m args meth c cc (some .boolean) nL own A) (u : S) (G : mg_wd D tys A s (w' u) H locs) {v : Int32} (hn : narrow .boolean (.int v) = .int v) (hp : post v u) (hdg : decode cc pc = .ok (.ireturn, 1)) : W p l e R s m args below meth c H locs cells slots (MQ below (va_Qi post (mg_bk D tys w' A) A) args s cells slots A) (F0 m pc ls [.int v]) := by
  obtain ⟨hx, hb, hr, hml, hown, hts, hlk, hA⟩ := C
  obtain ⟨hK, hP, hD, hS⟩ := G
  exact W.zret (v := v) hx hb hr hn (fun t ht hW => ⟨⟨v, u, rfl, hp, by rw [ht]; exact hP, va_K.moved hW.alike hK, hD⟩, hS.F ht⟩) hS.2.2 hdg
theorem mg_lret {S : Type} {post : Int64 → S → Prop} {w' : S → va_W} (C : mg_cx p s m args meth c cc (some .long) nL own A) (u : S) (G : mg_wd D tys A s (w' u) H locs) {v : Int64} (hp : post v u) (hdg : decode cc pc = .ok (.lreturn, 1)) : W p l e R s m args below meth c H locs cells slots (MQ below (va_Ql post (mg_bk D tys w' A) A) args s cells slots A) (F0 m pc ls [.long v]) := by
  obtain ⟨hx, hb, hr, hml, hown, hts, hlk, hA⟩ := C
  obtain ⟨hK, hP, hD, hS⟩ := G
  exact W.lret (v := v) hx hb hr (fun t ht hW => ⟨⟨v, u, rfl, hp, by rw [ht]; exact hP, va_K.moved hW.alike hK, hD⟩, hS.F ht⟩) hS.2.2 hdg
theorem mg_vret {S : Type} {post : S → Prop} {w' : S → va_W} (C : mg_cx p s m args meth c cc none nL own A) (u : S) (G : mg_wd D tys A s (w' u) H locs) (hp : post u) (hdg : decode cc pc = .ok (.return_, 1)) : W p l e R s m args below meth c H locs cells slots (MQ below (va_Qv post (mg_bk D tys w' A) A) args s cells slots A) (F0 m pc ls []) := by
  obtain ⟨hx, hb, hr, hml, hown, hts, hlk, hA⟩ := C
  obtain ⟨hK, hP, hD, hS⟩ := G
  exact W.vret hx hb hr (fun t ht hW => ⟨⟨u, rfl, hp, by rw [ht]; exact hP, va_K.moved hW.alike hK, hD⟩, hS.F ht⟩) hS.2.2 hdg
theorem mg_met {y : MethodName} {rm : Room} {argl : List Value} {sz mc ms : Nat} (Qc : (Nat → Prop) → Array Value → State → Outcome → State → Prop) (hy : plainName y.cls = true) (hn : (lg_sl argl).length ≤ nL)
    (body : ∀ (p : Program) (e : Env) (s : State) (m : MethodId) (below : List Frame) (meth : Method) (c : Code) (A : Nat → Prop) (ls : Array Slot), mg_cx p s m argl.toArray meth c cc ret nL y.cls A → meth.name = y.name → mg_wd D tys A s w s.heap [] → lv_has ls nL (lv_args 0 argl) → W p l e rm s m argl.toArray below meth c s.heap [] 0 0 (MQ below (Qc A) argl.toArray s mc ms A) (F0 m 0 ls [])) :
    Met l y (ws_ y cc nL ret) rm (va_Pc argl (mg_pre D tys w sz)) (Qc (va_A w sz)) mc ms (va_A w sz) := by
  refine Met.ofW (cc := cc) (maxL := nL) (ret := ret) hy rfl ?_
  intro p e s m args below meth c s₁ B hml hv
  obtain ⟨rfl, hsz, hP, hK, hD0⟩ := hv
  have hts := atoms_spec (ws := ws_ y cc nL ret) B.pre
  have hts : ∀ w ∈ lw_all, w.before _ s = true := fun w h => hts w (List.mem_cons_of_mem _ h)
  have hown : s.vm.findClass y.cls = some m.cls := findClass_of_methodNamed B.named
  have hin : meth.name = y.name := (name_of_methodNamed B.named B.method).1
  subst hsz
  have hD := hD0.self (sz := s.heap.size)
  have hl := lv_entry argl (n := nL) hn
  rw [lg_entry_eq]
  exact body p e s m below meth c (va_A w s.heap.size) _ ⟨B.exec, B.bytes, B.returns, hml, hown, hts, B.notSynchronized, fun q h => Or.inr h⟩ hin ⟨hK, hP, hD, va_S.rf⟩ hl
theorem mg_meti {y : MethodName} {rm : Room} {argl : List Value} {sz mc ms : Nat} {S : Type} {post : Int32 → S → Prop} {w' : S → va_W} (hy : plainName y.cls = true) (hn : (lg_sl argl).length ≤ nL)
    (body : ∀ (p : Program) (e : Env) (s : State) (m : MethodId) (below : List Frame) (meth : Method) (c : Code) (A : Nat → Prop) (ls : Array Slot), mg_cx p s m argl.toArray meth c cc ret nL y.cls A → meth.name = y.name → mg_wd D tys A s w s.heap [] → lv_has ls nL (lv_args 0 argl) → W p l e rm s m argl.toArray below meth c s.heap [] 0 0 (MQ below (va_Qi post (mg_bk D tys w' A) A) argl.toArray s mc ms A) (F0 m 0 ls [])) :
    Met l y (ws_ y cc nL ret) rm (va_Pc argl (mg_pre D tys w sz)) (va_Qi post (mg_bk D tys w' (va_A w sz)) (va_A w sz)) mc ms (va_A w sz) := mg_met (fun A => va_Qi post (mg_bk D tys w' A) A) hy hn body
theorem mg_metl {y : MethodName} {rm : Room} {argl : List Value} {sz mc ms : Nat} {S : Type} {post : Int64 → S → Prop} {w' : S → va_W} (hy : plainName y.cls = true) (hn : (lg_sl argl).length ≤ nL)
    (body : ∀ (p : Program) (e : Env) (s : State) (m : MethodId) (below : List Frame) (meth : Method) (c : Code) (A : Nat → Prop) (ls : Array Slot), mg_cx p s m argl.toArray meth c cc ret nL y.cls A → meth.name = y.name → mg_wd D tys A s w s.heap [] → lv_has ls nL (lv_args 0 argl) → W p l e rm s m argl.toArray below meth c s.heap [] 0 0 (MQ below (va_Ql post (mg_bk D tys w' A) A) argl.toArray s mc ms A) (F0 m 0 ls [])) :
    Met l y (ws_ y cc nL ret) rm (va_Pc argl (mg_pre D tys w sz)) (va_Ql post (mg_bk D tys w' (va_A w sz)) (va_A w sz)) mc ms (va_A w sz) := mg_met (fun A => va_Ql post (mg_bk D tys w' A) A) hy hn body
theorem mg_metv {y : MethodName} {rm : Room} {argl : List Value} {sz mc ms : Nat} {S : Type} {post : S → Prop} {w' : S → va_W} (hy : plainName y.cls = true) (hn : (lg_sl argl).length ≤ nL)
    (body : ∀ (p : Program) (e : Env) (s : State) (m : MethodId) (below : List Frame) (meth : Method) (c : Code) (A : Nat → Prop) (ls : Array Slot), mg_cx p s m argl.toArray meth c cc ret nL y.cls A → meth.name = y.name → mg_wd D tys A s w s.heap [] → lv_has ls nL (lv_args 0 argl) → W p l e rm s m argl.toArray below meth c s.heap [] 0 0 (MQ below (va_Qv post (mg_bk D tys w' A) A) argl.toArray s mc ms A) (F0 m 0 ls [])) :
    Met l y (ws_ y cc nL ret) rm (va_Pc argl (mg_pre D tys w sz)) (va_Qv post (mg_bk D tys w' (va_A w sz)) (va_A w sz)) mc ms (va_A w sz) := mg_met (fun A => va_Qv post (mg_bk D tys w' A) A) hy hn body
/-! numbers on the stack that are nI of a Nat -/
theorem mg_ige (hx : p.tables.exec = Jvm.exec) (hb : c.code = cc) {a b : Nat} {off : Int} {tgt : Nat} (ha : a < 2 ^ 31) (hb2 : b < 2 ^ 31) (hdg : decode cc pc = .ok (.if_icmp .ge off, 3)) (ht : (pc : Int) + off = (tgt : Int)) (kt : b ≤ a → W p l e R s m args below meth c H locs cells slots Q (F0 m tgt ls rest)) (kf : a < b → W p l e R s m args below meth c H locs cells slots Q (F0 m (pc + 3) ls rest)) : W p l e R s m args below meth c H locs cells slots Q (F0 m pc ls (.int (nI b) :: .int (nI a) :: rest)) :=
  lv_icmp_ge hx hb hdg ht (fun h => kt ((nI_leI hb2 ha).mp h)) (fun h => kf (Nat.lt_of_not_le fun q => h ((nI_leI hb2 ha).mpr q)))
theorem mg_igt (hx : p.tables.exec = Jvm.exec) (hb : c.code = cc) {a b : Nat} {off : Int} {tgt : Nat} (ha : a < 2 ^ 31) (hb2 : b < 2 ^ 31) (hdg : decode cc pc = .ok (.if_icmp .gt off, 3)) (ht : (pc : Int) + off = (tgt : Int)) (kt : b < a → W p l e R s m args below meth c H locs cells slots Q (F0 m tgt ls rest)) (kf : a ≤ b → W p l e R s m args below meth c H locs cells slots Q (F0 m (pc + 3) ls rest)) : W p l e R s m args below meth c H locs cells slots Q (F0 m pc ls (.int (nI b) :: .int (nI a) :: rest)) :=
  lv_icmp_gt hx hb hdg ht (fun h => kt ((nI_ltI hb2 ha).mp h)) (fun h => kf (Nat.le_of_not_lt fun q => h ((nI_ltI hb2 ha).mpr q)))
theorem mg_ilt (hx : p.tables.exec = Jvm.exec) (hb : c.code = cc) {a b : Nat} {off : Int} {tgt : Nat} (ha : a < 2 ^ 31) (hb2 : b < 2 ^ 31) (hdg : decode cc pc = .ok (.if_icmp .lt off, 3)) (ht : (pc : Int) + off = (tgt : Int)) (kt : a < b → W p l e R s m args below meth c H locs cells slots Q (F0 m tgt ls rest)) (kf : b ≤ a → W p l e R s m args below meth c H locs cells slots Q (F0 m (pc + 3) ls rest)) : W p l e R s m args below meth c H locs cells slots Q (F0 m pc ls (.int (nI b) :: .int (nI a) :: rest)) :=
  lv_icmp_lt hx hb hdg ht (fun h => kt ((nI_ltI ha hb2).mp h)) (fun h => kf (Nat.le_of_not_lt fun q => h ((nI_ltI ha hb2).mpr q)))
theorem mg_ieq (hx : p.tables.exec = Jvm.exec) (hb : c.code = cc) {a b : Nat} {off : Int} {tgt : Nat} (ha : a < 2 ^ 31) (hb2 : b < 2 ^ 31) (hdg : decode cc pc = .ok (.if_icmp .eq off, 3)) (ht : (pc : Int) + off = (tgt : Int)) (kt : a = b → W p l e R s m args below meth c H locs cells slots Q (F0 m tgt ls rest)) (kf : ¬ a = b → W p l e R s m args below meth c H locs cells slots Q (F0 m (pc + 3) ls rest)) : W p l e R s m args below meth c H locs cells slots Q (F0 m pc ls (.int (nI b) :: .int (nI a) :: rest)) :=
  lv_icmp_eq hx hb hdg ht (fun h => kt ((nI_eq ha hb2).mp h)) (fun h => kf (fun q => h ((nI_eq ha hb2).mpr q)))
theorem mg_ine (hx : p.tables.exec = Jvm.exec) (hb : c.code = cc) {a b : Nat} {off : Int} {tgt : Nat} (ha : a < 2 ^ 31) (hb2 : b < 2 ^ 31) (hdg : decode cc pc = .ok (.if_icmp .ne off, 3)) (ht : (pc : Int) + off = (tgt : Int)) (kt : ¬ a = b → W p l e R s m args below meth c H locs cells slots Q (F0 m tgt ls rest)) (kf : a = b → W p l e R s m args below meth c H locs cells slots Q (F0 m (pc + 3) ls rest)) : W p l e R s m args below meth c H locs cells slots Q (F0 m pc ls (.int (nI b) :: .int (nI a) :: rest)) :=
  lv_icmp_ne hx hb hdg ht (fun h => kt (fun q => h ((nI_eq ha hb2).mpr q))) (fun h => kf ((nI_eq ha hb2).mp h))
theorem mg_add (hx : p.tables.exec = Jvm.exec) (hb : c.code = cc) {a b : Nat} (hdg : decode cc pc = .ok (.iadd, 1)) (k : W p l e R s m args below meth c H locs cells slots Q (F0 m (pc + 1) ls (.int (nI (a + b)) :: rest))) : W p l e R s m args below meth c H locs cells slots Q (F0 m pc ls (.int (nI b) :: .int (nI a) :: rest)) :=
  lv_iadd hx hb hdg (by rw [nI_add]; exact k)
theorem mg_sub (hx : p.tables.exec = Jvm.exec) (hb : c.code = cc) {a b : Nat} (h : b ≤ a) (hdg : decode cc pc = .ok (.isub, 1)) (k : W p l e R s m args below meth c H locs cells slots Q (F0 m (pc + 1) ls (.int (nI (a - b)) :: rest))) : W p l e R s m args below meth c H locs cells slots Q (F0 m pc ls (.int (nI b) :: .int (nI a) :: rest)) :=
  lv_isub hx hb hdg (by rw [pk_sub h]; exact k)
end GB
theorem mg_b0 {P : Prop} [Decidable P] {r : Int32} (hr : r = if P then 1 else 0) (c : r = 0) : ¬ P := by
  intro h; rw [if_pos h] at hr; rw [hr] at c; exact absurd c (by decide)
theorem mg_b1 {P : Prop} [Decidable P] {r : Int32} (hr : r = if P then 1 else 0) (c : ¬ r = 0) : P := by
  by_cases h : P
  · exact h
  · rw [if_neg h] at hr; exact absurd hr c
theorem mg_inc (a : Nat) : nI a + Int32.ofInt 1 = nI (a + 1) := nI_1 a
end
section
/-! the two worlds, and a row an instruction that touches them -/
abbrev mg_ty (cI cZ : ClassId) : mg_T := [(cI, .int), (cZ, .boolean)]
def wX (a : Nat → Nat) (cI cZ : ClassId) (pt kk : Int32) (ax ay sx sy mx my mc mv mb qx qy qc : AR) (up lo : Int64) : va_W := [(a 0, .inr (0, [.int pt, .ref (a 1), .ref (a 2), .int kk, .ref (a 3), .ref (a 4), .ref (a 5), .ref (a 6), .ref (a 7), .ref (a 8), .ref (a 9), .ref (a 10), .ref (a 11), .ref (a 12), .long up, .long lo])), (a 1, .inl (cI, 24, .inl ax)), (a 2, .inl (cI, 24, .inl ay)), (a 3, .inl (cI, 4, .inl sx)), (a 4, .inl (cI, 4, .inl sy)), (a 5, .inl (cI, 4, .inl mx)), (a 6, .inl (cI, 4, .inl my)), (a 7, .inl (cI, 4, .inl mc)), (a 8, .inl (cZ, 4, .inl mv)), (a 9, .inl (cI, 24, .inl mb)), (a 10, .inl (cI, 4, .inl qx)), (a 11, .inl (cI, 4, .inl qy)), (a 12, .inl (cI, 4, .inl qc))]
def wM (b : Nat → Nat) (cI : ClassId) (pt kk : Int32) (ax ay mb sx sy mx my mc : AR) : va_W := [(b 0, .inr (1, [.int pt, .ref (b 1), .ref (b 2), .ref (b 3), .int kk, .ref (b 4), .ref (b 5), .ref (b 6), .ref (b 7), .ref (b 8)])), (b 1, .inl (cI, 24, .inl ax)), (b 2, .inl (cI, 24, .inl ay)), (b 3, .inl (cI, 24, .inl mb)), (b 4, .inl (cI, 4, .inl sx)), (b 5, .inl (cI, 4, .inl sy)), (b 6, .inl (cI, 4, .inl mx)), (b 7, .inl (cI, 4, .inl my)), (b 8, .inl (cI, 4, .inl mc))]
section GR
variable {p : Program} {l : Launch} {e : Env} {R : Room} {s : State} {m : MethodId} {args : Array Value} {below : List Frame} {meth : Method} {c : Code} {H : Heap} {locs : List Loc} {cells slots : Nat} {Q : State → Prop}
variable {cc : ByteArray} {ret : Option FieldType} {nL : Nat} {own : String} {A : Nat → Prop} {D : va_G} {pc : Nat} {ls : Array Slot} {rest : List Value}
variable {a : Nat → Nat} {cI cZ : ClassId} {pt kk : Int32} {ax ay sx sy mx my mc mv mb qx qy qc : AR} {up lo : Int64}
variable {b : Nat → Nat}
theorem gX_pt (C : mg_cx p s m args meth c cc ret nL RX0 A) (G : mg_wd D (mg_ty cI cZ) A s (wX a cI cZ pt kk ax ay sx sy mx my mc mv mb qx qy qc up lo) H locs) (hdg : decode cc pc = .ok (.getfield 58, 3)) (go : W p l e R s m args below meth c H locs cells slots Q (F0 m (pc + 3) ls (.int pt :: rest))) : W p l e R s m args below meth c H locs cells slots Q (F0 m pc ls (.ref (a 0) :: rest)) := by
  obtain ⟨hx, hb, hr, hml, hown, hts, hlk, hA⟩ := C
  obtain ⟨hK, hP, hD, hS⟩ := G
  exact va_get (D := D) (ci := 0) (v := .int pt) (C := RX0) (T := TX0) (N := 16) hx hb hts in_X0 hown hK hP 0 rfl rfl 0 (by decide) (hts _ q24) (fun _ h9 => h9) rfl hdg go
theorem pX_pt (C : mg_cx p s m args meth c cc ret nL RX0 A) (G : mg_wd D (mg_ty cI cZ) A s (wX a cI cZ pt kk ax ay sx sy mx my mc mv mb qx qy qc up lo) H locs) {v : Int32} (hdg : decode cc pc = .ok (.putfield 58, 3)) (go : ∀ (H1 : Heap) (locs1 : List Loc), mg_wd D (mg_ty cI cZ) A s (wX a cI cZ v kk ax ay sx sy mx my mc mv mb qx qy qc up lo) H1 locs1 → W p l e R s m args below meth c H1 locs1 cells slots Q (F0 m (pc + 3) ls (rest))) : W p l e R s m args below meth c H locs cells slots Q (F0 m pc ls (.int v :: .ref (a 0) :: rest)) := by
  obtain ⟨hx, hb, hr, hml, hown, hts, hlk, hA⟩ := C
  obtain ⟨hK, hP, hD, hS⟩ := G
  exact va_put (D := D) (ci := 0) (v := .int v) (ty := .int) (C := RX0) (T := TX0) (N := 16) hx hb hts in_X0 tyX0 tyX0_ok nmX0 hown hK hP hD hS 0 rfl rfl 0 (by decide) (hts _ q24) (fun _ h9 => h9) rfl (by decide +kernel) rfl rfl (Nat.le_of_ble_eq_true rfl) hdg (fun H1 locs1 hP1 hD1 hS1 => go H1 locs1 ⟨hK, hP1, hD1, hS1⟩)
theorem gX_ax (C : mg_cx p s m args meth c cc ret nL RX0 A) (G : mg_wd D (mg_ty cI cZ) A s (wX a cI cZ pt kk ax ay sx sy mx my mc mv mb qx qy qc up lo) H locs) (hdg : decode cc pc = .ok (.getfield 7, 3)) (go : W p l e R s m args below meth c H locs cells slots Q (F0 m (pc + 3) ls (.ref (a 1) :: rest))) : W p l e R s m args below meth c H locs cells slots Q (F0 m pc ls (.ref (a 0) :: rest)) := by
  obtain ⟨hx, hb, hr, hml, hown, hts, hlk, hA⟩ := C
  obtain ⟨hK, hP, hD, hS⟩ := G
  exact va_get (D := D) (ci := 0) (v := .ref (a 1)) (C := RX0) (T := TX0) (N := 16) hx hb hts in_X0 hown hK hP 0 rfl rfl 1 (by decide) (hts _ q25) (fun _ h9 => h9) rfl hdg go
theorem lX_ax (C : mg_cx p s m args meth c cc ret nL own A) (G : mg_wd D (mg_ty cI cZ) A s (wX a cI cZ pt kk ax ay sx sy mx my mc mv mb qx qy qc up lo) H locs) {j : Nat} (hj : j < 24) (hdg : decode cc pc = .ok (.iaload, 1)) (go : W p l e R s m args below meth c H locs cells slots Q (F0 m (pc + 1) ls (.int (ax j) :: rest))) : W p l e R s m args below meth c H locs cells slots Q (F0 m pc ls (.int (nI j) :: .ref (a 1) :: rest)) := by
  obtain ⟨hx, hb, hr, hml, hown, hts, hlk, hA⟩ := C
  obtain ⟨hK, hP, hD, hS⟩ := G
  refine va_iald hx hb hK hP 1 0 rfl rfl (vp_in_nI hj (by decide)) hdg ?_
  rw [nI_clamp (Nat.lt_trans hj (by decide))]; exact go
theorem sX_ax (C : mg_cx p s m args meth c cc ret nL own A) (G : mg_wd D (mg_ty cI cZ) A s (wX a cI cZ pt kk ax ay sx sy mx my mc mv mb qx qy qc up lo) H locs) {j : Nat} {v : Int32} (hj : j < 24) (hdg : decode cc pc = .ok (.iastore, 1)) (go : ∀ (H1 : Heap) (locs1 : List Loc), mg_wd D (mg_ty cI cZ) A s (wX a cI cZ pt kk (upd ax j v) ay sx sy mx my mc mv mb qx qy qc up lo) H1 locs1 → W p l e R s m args below meth c H1 locs1 cells slots Q (F0 m (pc + 1) ls (rest))) : W p l e R s m args below meth c H locs cells slots Q (F0 m pc ls (.int v :: .int (nI j) :: .ref (a 1) :: rest)) := by
  obtain ⟨hx, hb, hr, hml, hown, hts, hlk, hA⟩ := C
  obtain ⟨hK, hP, hD, hS⟩ := G
  refine va_iast hx hb hK hP hD hS 1 0 rfl rfl (vp_in_nI hj (by decide)) hdg (fun H1 locs1 hP1 hD1 hS1 => ?_)
  rw [nI_clamp (Nat.lt_trans hj (by decide))] at hP1 hD1
  exact go H1 locs1 ⟨hK, hP1, hD1, hS1⟩
theorem gX_ay (C : mg_cx p s m args meth c cc ret nL RX0 A) (G : mg_wd D (mg_ty cI cZ) A s (wX a cI cZ pt kk ax ay sx sy mx my mc mv mb qx qy qc up lo) H locs) (hdg : decode cc pc = .ok (.getfield 13, 3)) (go : W p l e R s m args below meth c H locs cells slots Q (F0 m (pc + 3) ls (.ref (a 2) :: rest))) : W p l e R s m args below meth c H locs cells slots Q (F0 m pc ls (.ref (a 0) :: rest)) := by
  obtain ⟨hx, hb, hr, hml, hown, hts, hlk, hA⟩ := C
  obtain ⟨hK, hP, hD, hS⟩ := G
  exact va_get (D := D) (ci := 0) (v := .ref (a 2)) (C := RX0) (T := TX0) (N := 16) hx hb hts in_X0 hown hK hP 0 rfl rfl 2 (by decide) (hts _ q26) (fun _ h9 => h9) rfl hdg go
theorem lX_ay (C : mg_cx p s m args meth c cc ret nL own A) (G : mg_wd D (mg_ty cI cZ) A s (wX a cI cZ pt kk ax ay sx sy mx my mc mv mb qx qy qc up lo) H locs) {j : Nat} (hj : j < 24) (hdg : decode cc pc = .ok (.iaload, 1)) (go : W p l e R s m args below meth c H locs cells slots Q (F0 m (pc + 1) ls (.int (ay j) :: rest))) : W p l e R s m args below meth c H locs cells slots Q (F0 m pc ls (.int (nI j) :: .ref (a 2) :: rest)) := by
  obtain ⟨hx, hb, hr, hml, hown, hts, hlk, hA⟩ := C
  obtain ⟨hK, hP, hD, hS⟩ := G
  refine va_iald hx hb hK hP 2 0 rfl rfl (vp_in_nI hj (by decide)) hdg ?_
  rw [nI_clamp (Nat.lt_trans hj (by decide))]; exact go
theorem sX_ay (C : mg_cx p s m args meth c cc ret nL own A) (G : mg_wd D (mg_ty cI cZ) A s (wX a cI cZ pt kk ax ay sx sy mx my mc mv mb qx qy qc up lo) H locs) {j : Nat} {v : Int32} (hj : j < 24) (hdg : decode cc pc = .ok (.iastore, 1)) (go : ∀ (H1 : Heap) (locs1 : List Loc), mg_wd D (mg_ty cI cZ) A s (wX a cI cZ pt kk ax (upd ay j v) sx sy mx my mc mv mb qx qy qc up lo) H1 locs1 → W p l e R s m args below meth c H1 locs1 cells slots Q (F0 m (pc + 1) ls (rest))) : W p l e R s m args below meth c H locs cells slots Q (F0 m pc ls (.int v :: .int (nI j) :: .ref (a 2) :: rest)) := by
  obtain ⟨hx, hb, hr, hml, hown, hts, hlk, hA⟩ := C
  obtain ⟨hK, hP, hD, hS⟩ := G
  refine va_iast hx hb hK hP hD hS 2 0 rfl rfl (vp_in_nI hj (by decide)) hdg (fun H1 locs1 hP1 hD1 hS1 => ?_)
  rw [nI_clamp (Nat.lt_trans hj (by decide))] at hP1 hD1
  exact go H1 locs1 ⟨hK, hP1, hD1, hS1⟩
theorem gX_kk (C : mg_cx p s m args meth c cc ret nL RX0 A) (G : mg_wd D (mg_ty cI cZ) A s (wX a cI cZ pt kk ax ay sx sy mx my mc mv mb qx qy qc up lo) H locs) (hdg : decode cc pc = .ok (.getfield 47, 3)) (go : W p l e R s m args below meth c H locs cells slots Q (F0 m (pc + 3) ls (.int kk :: rest))) : W p l e R s m args below meth c H locs cells slots Q (F0 m pc ls (.ref (a 0) :: rest)) := by
  obtain ⟨hx, hb, hr, hml, hown, hts, hlk, hA⟩ := C
  obtain ⟨hK, hP, hD, hS⟩ := G
  exact va_get (D := D) (ci := 0) (v := .int kk) (C := RX0) (T := TX0) (N := 16) hx hb hts in_X0 hown hK hP 0 rfl rfl 3 (by decide) (hts _ q27) (fun _ h9 => h9) rfl hdg go
theorem pX_kk (C : mg_cx p s m args meth c cc ret nL RX0 A) (G : mg_wd D (mg_ty cI cZ) A s (wX a cI cZ pt kk ax ay sx sy mx my mc mv mb qx qy qc up lo) H locs) {v : Int32} (hdg : decode cc pc = .ok (.putfield 47, 3)) (go : ∀ (H1 : Heap) (locs1 : List Loc), mg_wd D (mg_ty cI cZ) A s (wX a cI cZ pt v ax ay sx sy mx my mc mv mb qx qy qc up lo) H1 locs1 → W p l e R s m args below meth c H1 locs1 cells slots Q (F0 m (pc + 3) ls (rest))) : W p l e R s m args below meth c H locs cells slots Q (F0 m pc ls (.int v :: .ref (a 0) :: rest)) := by
  obtain ⟨hx, hb, hr, hml, hown, hts, hlk, hA⟩ := C
  obtain ⟨hK, hP, hD, hS⟩ := G
  exact va_put (D := D) (ci := 0) (v := .int v) (ty := .int) (C := RX0) (T := TX0) (N := 16) hx hb hts in_X0 tyX0 tyX0_ok nmX0 hown hK hP hD hS 0 rfl rfl 3 (by decide) (hts _ q27) (fun _ h9 => h9) rfl (by decide +kernel) rfl rfl (Nat.le_of_ble_eq_true rfl) hdg (fun H1 locs1 hP1 hD1 hS1 => go H1 locs1 ⟨hK, hP1, hD1, hS1⟩)
theorem gX_sx (C : mg_cx p s m args meth c cc ret nL RX0 A) (G : mg_wd D (mg_ty cI cZ) A s (wX a cI cZ pt kk ax ay sx sy mx my mc mv mb qx qy qc up lo) H locs) (hdg : decode cc pc = .ok (.getfield 16, 3)) (go : W p l e R s m args below meth c H locs cells slots Q (F0 m (pc + 3) ls (.ref (a 3) :: rest))) : W p l e R s m args below meth c H locs cells slots Q (F0 m pc ls (.ref (a 0) :: rest)) := by
  obtain ⟨hx, hb, hr, hml, hown, hts, hlk, hA⟩ := C
  obtain ⟨hK, hP, hD, hS⟩ := G
  exact va_get (D := D) (ci := 0) (v := .ref (a 3)) (C := RX0) (T := TX0) (N := 16) hx hb hts in_X0 hown hK hP 0 rfl rfl 4 (by decide) (hts _ q28) (fun _ h9 => h9) rfl hdg go
theorem lX_sx (C : mg_cx p s m args meth c cc ret nL own A) (G : mg_wd D (mg_ty cI cZ) A s (wX a cI cZ pt kk ax ay sx sy mx my mc mv mb qx qy qc up lo) H locs) {j : Nat} (hj : j < 4) (hdg : decode cc pc = .ok (.iaload, 1)) (go : W p l e R s m args below meth c H locs cells slots Q (F0 m (pc + 1) ls (.int (sx j) :: rest))) : W p l e R s m args below meth c H locs cells slots Q (F0 m pc ls (.int (nI j) :: .ref (a 3) :: rest)) := by
  obtain ⟨hx, hb, hr, hml, hown, hts, hlk, hA⟩ := C
  obtain ⟨hK, hP, hD, hS⟩ := G
  refine va_iald hx hb hK hP 3 0 rfl rfl (vp_in_nI hj (by decide)) hdg ?_
  rw [nI_clamp (Nat.lt_trans hj (by decide))]; exact go
theorem sX_sx (C : mg_cx p s m args meth c cc ret nL own A) (G : mg_wd D (mg_ty cI cZ) A s (wX a cI cZ pt kk ax ay sx sy mx my mc mv mb qx qy qc up lo) H locs) {j : Nat} {v : Int32} (hj : j < 4) (hdg : decode cc pc = .ok (.iastore, 1)) (go : ∀ (H1 : Heap) (locs1 : List Loc), mg_wd D (mg_ty cI cZ) A s (wX a cI cZ pt kk ax ay (upd sx j v) sy mx my mc mv mb qx qy qc up lo) H1 locs1 → W p l e R s m args below meth c H1 locs1 cells slots Q (F0 m (pc + 1) ls (rest))) : W p l e R s m args below meth c H locs cells slots Q (F0 m pc ls (.int v :: .int (nI j) :: .ref (a 3) :: rest)) := by
  obtain ⟨hx, hb, hr, hml, hown, hts, hlk, hA⟩ := C
  obtain ⟨hK, hP, hD, hS⟩ := G
  refine va_iast hx hb hK hP hD hS 3 0 rfl rfl (vp_in_nI hj (by decide)) hdg (fun H1 locs1 hP1 hD1 hS1 => ?_)
  rw [nI_clamp (Nat.lt_trans hj (by decide))] at hP1 hD1
  exact go H1 locs1 ⟨hK, hP1, hD1, hS1⟩
theorem gX_sy (C : mg_cx p s m args meth c cc ret nL RX0 A) (G : mg_wd D (mg_ty cI cZ) A s (wX a cI cZ pt kk ax ay sx sy mx my mc mv mb qx qy qc up lo) H locs) (hdg : decode cc pc = .ok (.getfield 19, 3)) (go : W p l e R s m args below meth c H locs cells slots Q (F0 m (pc + 3) ls (.ref (a 4) :: rest))) : W p l e R s m args below meth c H locs cells slots Q (F0 m pc ls (.ref (a 0) :: rest)) := by
  obtain ⟨hx, hb, hr, hml, hown, hts, hlk, hA⟩ := C
  obtain ⟨hK, hP, hD, hS⟩ := G
  exact va_get (D := D) (ci := 0) (v := .ref (a 4)) (C := RX0) (T := TX0) (N := 16) hx hb hts in_X0 hown hK hP 0 rfl rfl 5 (by decide) (hts _ q29) (fun _ h9 => h9) rfl hdg go
theorem lX_sy (C : mg_cx p s m args meth c cc ret nL own A) (G : mg_wd D (mg_ty cI cZ) A s (wX a cI cZ pt kk ax ay sx sy mx my mc mv mb qx qy qc up lo) H locs) {j : Nat} (hj : j < 4) (hdg : decode cc pc = .ok (.iaload, 1)) (go : W p l e R s m args below meth c H locs cells slots Q (F0 m (pc + 1) ls (.int (sy j) :: rest))) : W p l e R s m args below meth c H locs cells slots Q (F0 m pc ls (.int (nI j) :: .ref (a 4) :: rest)) := by
  obtain ⟨hx, hb, hr, hml, hown, hts, hlk, hA⟩ := C
  obtain ⟨hK, hP, hD, hS⟩ := G
  refine va_iald hx hb hK hP 4 0 rfl rfl (vp_in_nI hj (by decide)) hdg ?_
  rw [nI_clamp (Nat.lt_trans hj (by decide))]; exact go
theorem sX_sy (C : mg_cx p s m args meth c cc ret nL own A) (G : mg_wd D (mg_ty cI cZ) A s (wX a cI cZ pt kk ax ay sx sy mx my mc mv mb qx qy qc up lo) H locs) {j : Nat} {v : Int32} (hj : j < 4) (hdg : decode cc pc = .ok (.iastore, 1)) (go : ∀ (H1 : Heap) (locs1 : List Loc), mg_wd D (mg_ty cI cZ) A s (wX a cI cZ pt kk ax ay sx (upd sy j v) mx my mc mv mb qx qy qc up lo) H1 locs1 → W p l e R s m args below meth c H1 locs1 cells slots Q (F0 m (pc + 1) ls (rest))) : W p l e R s m args below meth c H locs cells slots Q (F0 m pc ls (.int v :: .int (nI j) :: .ref (a 4) :: rest)) := by
  obtain ⟨hx, hb, hr, hml, hown, hts, hlk, hA⟩ := C
  obtain ⟨hK, hP, hD, hS⟩ := G
  refine va_iast hx hb hK hP hD hS 4 0 rfl rfl (vp_in_nI hj (by decide)) hdg (fun H1 locs1 hP1 hD1 hS1 => ?_)
  rw [nI_clamp (Nat.lt_trans hj (by decide))] at hP1 hD1
  exact go H1 locs1 ⟨hK, hP1, hD1, hS1⟩
theorem gX_mx (C : mg_cx p s m args meth c cc ret nL RX0 A) (G : mg_wd D (mg_ty cI cZ) A s (wX a cI cZ pt kk ax ay sx sy mx my mc mv mb qx qy qc up lo) H locs) (hdg : decode cc pc = .ok (.getfield 22, 3)) (go : W p l e R s m args below meth c H locs cells slots Q (F0 m (pc + 3) ls (.ref (a 5) :: rest))) : W p l e R s m args below meth c H locs cells slots Q (F0 m pc ls (.ref (a 0) :: rest)) := by
  obtain ⟨hx, hb, hr, hml, hown, hts, hlk, hA⟩ := C
  obtain ⟨hK, hP, hD, hS⟩ := G
  exact va_get (D := D) (ci := 0) (v := .ref (a 5)) (C := RX0) (T := TX0) (N := 16) hx hb hts in_X0 hown hK hP 0 rfl rfl 6 (by decide) (hts _ q30) (fun _ h9 => h9) rfl hdg go
theorem lX_mx (C : mg_cx p s m args meth c cc ret nL own A) (G : mg_wd D (mg_ty cI cZ) A s (wX a cI cZ pt kk ax ay sx sy mx my mc mv mb qx qy qc up lo) H locs) {j : Nat} (hj : j < 4) (hdg : decode cc pc = .ok (.iaload, 1)) (go : W p l e R s m args below meth c H locs cells slots Q (F0 m (pc + 1) ls (.int (mx j) :: rest))) : W p l e R s m args below meth c H locs cells slots Q (F0 m pc ls (.int (nI j) :: .ref (a 5) :: rest)) := by
  obtain ⟨hx, hb, hr, hml, hown, hts, hlk, hA⟩ := C
  obtain ⟨hK, hP, hD, hS⟩ := G
  refine va_iald hx hb hK hP 5 0 rfl rfl (vp_in_nI hj (by decide)) hdg ?_
  rw [nI_clamp (Nat.lt_trans hj (by decide))]; exact go
theorem sX_mx (C : mg_cx p s m args meth c cc ret nL own A) (G : mg_wd D (mg_ty cI cZ) A s (wX a cI cZ pt kk ax ay sx sy mx my mc mv mb qx qy qc up lo) H locs) {j : Nat} {v : Int32} (hj : j < 4) (hdg : decode cc pc = .ok (.iastore, 1)) (go : ∀ (H1 : Heap) (locs1 : List Loc), mg_wd D (mg_ty cI cZ) A s (wX a cI cZ pt kk ax ay sx sy (upd mx j v) my mc mv mb qx qy qc up lo) H1 locs1 → W p l e R s m args below meth c H1 locs1 cells slots Q (F0 m (pc + 1) ls (rest))) : W p l e R s m args below meth c H locs cells slots Q (F0 m pc ls (.int v :: .int (nI j) :: .ref (a 5) :: rest)) := by
  obtain ⟨hx, hb, hr, hml, hown, hts, hlk, hA⟩ := C
  obtain ⟨hK, hP, hD, hS⟩ := G
  refine va_iast hx hb hK hP hD hS 5 0 rfl rfl (vp_in_nI hj (by decide)) hdg (fun H1 locs1 hP1 hD1 hS1 => ?_)
  rw [nI_clamp (Nat.lt_trans hj (by decide))] at hP1 hD1
  exact go H1 locs1 ⟨hK, hP1, hD1, hS1⟩
theorem gX_my (C : mg_cx p s m args meth c cc ret nL RX0 A) (G : mg_wd D (mg_ty cI cZ) A s (wX a cI cZ pt kk ax ay sx sy mx my mc mv mb qx qy qc up lo) H locs) (hdg : decode cc pc = .ok (.getfield 25, 3)) (go : W p l e R s m args below meth c H locs cells slots Q (F0 m (pc + 3) ls (.ref (a 6) :: rest))) : W p l e R s m args below meth c H locs cells slots Q (F0 m pc ls (.ref (a 0) :: rest)) := by
  obtain ⟨hx, hb, hr, hml, hown, hts, hlk, hA⟩ := C
  obtain ⟨hK, hP, hD, hS⟩ := G
  exact va_get (D := D) (ci := 0) (v := .ref (a 6)) (C := RX0) (T := TX0) (N := 16) hx hb hts in_X0 hown hK hP 0 rfl rfl 7 (by decide) (hts _ q31) (fun _ h9 => h9) rfl hdg go
theorem lX_my (C : mg_cx p s m args meth c cc ret nL own A) (G : mg_wd D (mg_ty cI cZ) A s (wX a cI cZ pt kk ax ay sx sy mx my mc mv mb qx qy qc up lo) H locs) {j : Nat} (hj : j < 4) (hdg : decode cc pc = .ok (.iaload, 1)) (go : W p l e R s m args below meth c H locs cells slots Q (F0 m (pc + 1) ls (.int (my j) :: rest))) : W p l e R s m args below meth c H locs cells slots Q (F0 m pc ls (.int (nI j) :: .ref (a 6) :: rest)) := by
  obtain ⟨hx, hb, hr, hml, hown, hts, hlk, hA⟩ := C
  obtain ⟨hK, hP, hD, hS⟩ := G
  refine va_iald hx hb hK hP 6 0 rfl rfl (vp_in_nI hj (by decide)) hdg ?_
  rw [nI_clamp (Nat.lt_trans hj (by decide))]; exact go
theorem sX_my (C : mg_cx p s m args meth c cc ret nL own A) (G : mg_wd D (mg_ty cI cZ) A s (wX a cI cZ pt kk ax ay sx sy mx my mc mv mb qx qy qc up lo) H locs) {j : Nat} {v : Int32} (hj : j < 4) (hdg : decode cc pc = .ok (.iastore, 1)) (go : ∀ (H1 : Heap) (locs1 : List Loc), mg_wd D (mg_ty cI cZ) A s (wX a cI cZ pt kk ax ay sx sy mx (upd my j v) mc mv mb qx qy qc up lo) H1 locs1 → W p l e R s m args below meth c H1 locs1 cells slots Q (F0 m (pc + 1) ls (rest))) : W p l e R s m args below meth c H locs cells slots Q (F0 m pc ls (.int v :: .int (nI j) :: .ref (a 6) :: rest)) := by
  obtain ⟨hx, hb, hr, hml, hown, hts, hlk, hA⟩ := C
  obtain ⟨hK, hP, hD, hS⟩ := G
  refine va_iast hx hb hK hP hD hS 6 0 rfl rfl (vp_in_nI hj (by decide)) hdg (fun H1 locs1 hP1 hD1 hS1 => ?_)
  rw [nI_clamp (Nat.lt_trans hj (by decide))] at hP1 hD1
  exact go H1 locs1 ⟨hK, hP1, hD1, hS1⟩
theorem gX_mc (C : mg_cx p s m args meth c cc ret nL RX0 A) (G : mg_wd D (mg_ty cI cZ) A s (wX a cI cZ pt kk ax ay sx sy mx my mc mv mb qx qy qc up lo) H locs) (hdg : decode cc pc = .ok (.getfield 28, 3)) (go : W p l e R s m args below meth c H locs cells slots Q (F0 m (pc + 3) ls (.ref (a 7) :: rest))) : W p l e R s m args below meth c H locs cells slots Q (F0 m pc ls (.ref (a 0) :: rest)) := by
  obtain ⟨hx, hb, hr, hml, hown, hts, hlk, hA⟩ := C
  obtain ⟨hK, hP, hD, hS⟩ := G
  exact va_get (D := D) (ci := 0) (v := .ref (a 7)) (C := RX0) (T := TX0) (N := 16) hx hb hts in_X0 hown hK hP 0 rfl rfl 8 (by decide) (hts _ q32) (fun _ h9 => h9) rfl hdg go
theorem lX_mc (C : mg_cx p s m args meth c cc ret nL own A) (G : mg_wd D (mg_ty cI cZ) A s (wX a cI cZ pt kk ax ay sx sy mx my mc mv mb qx qy qc up lo) H locs) {j : Nat} (hj : j < 4) (hdg : decode cc pc = .ok (.iaload, 1)) (go : W p l e R s m args below meth c H locs cells slots Q (F0 m (pc + 1) ls (.int (mc j) :: rest))) : W p l e R s m args below meth c H locs cells slots Q (F0 m pc ls (.int (nI j) :: .ref (a 7) :: rest)) := by
  obtain ⟨hx, hb, hr, hml, hown, hts, hlk, hA⟩ := C
  obtain ⟨hK, hP, hD, hS⟩ := G
  refine va_iald hx hb hK hP 7 0 rfl rfl (vp_in_nI hj (by decide)) hdg ?_
  rw [nI_clamp (Nat.lt_trans hj (by decide))]; exact go
theorem sX_mc (C : mg_cx p s m args meth c cc ret nL own A) (G : mg_wd D (mg_ty cI cZ) A s (wX a cI cZ pt kk ax ay sx sy mx my mc mv mb qx qy qc up lo) H locs) {j : Nat} {v : Int32} (hj : j < 4) (hdg : decode cc pc = .ok (.iastore, 1)) (go : ∀ (H1 : Heap) (locs1 : List Loc), mg_wd D (mg_ty cI cZ) A s (wX a cI cZ pt kk ax ay sx sy mx my (upd mc j v) mv mb qx qy qc up lo) H1 locs1 → W p l e R s m args below meth c H1 locs1 cells slots Q (F0 m (pc + 1) ls (rest))) : W p l e R s m args below meth c H locs cells slots Q (F0 m pc ls (.int v :: .int (nI j) :: .ref (a 7) :: rest)) := by
  obtain ⟨hx, hb, hr, hml, hown, hts, hlk, hA⟩ := C
  obtain ⟨hK, hP, hD, hS⟩ := G
  refine va_iast hx hb hK hP hD hS 7 0 rfl rfl (vp_in_nI hj (by decide)) hdg (fun H1 locs1 hP1 hD1 hS1 => ?_)
  rw [nI_clamp (Nat.lt_trans hj (by decide))] at hP1 hD1
  exact go H1 locs1 ⟨hK, hP1, hD1, hS1⟩
theorem gX_mv (C : mg_cx p s m args meth c cc ret nL RX0 A) (G : mg_wd D (mg_ty cI cZ) A s (wX a cI cZ pt kk ax ay sx sy mx my mc mv mb qx qy qc up lo) H locs) (hdg : decode cc pc = .ok (.getfield 31, 3)) (go : W p l e R s m args below meth c H locs cells slots Q (F0 m (pc + 3) ls (.ref (a 8) :: rest))) : W p l e R s m args below meth c H locs cells slots Q (F0 m pc ls (.ref (a 0) :: rest)) := by
  obtain ⟨hx, hb, hr, hml, hown, hts, hlk, hA⟩ := C
  obtain ⟨hK, hP, hD, hS⟩ := G
  exact va_get (D := D) (ci := 0) (v := .ref (a 8)) (C := RX0) (T := TX0) (N := 16) hx hb hts in_X0 hown hK hP 0 rfl rfl 9 (by decide) (hts _ q33) (fun _ h9 => h9) rfl hdg go
theorem lX_mv (C : mg_cx p s m args meth c cc ret nL own A) (G : mg_wd D (mg_ty cI cZ) A s (wX a cI cZ pt kk ax ay sx sy mx my mc mv mb qx qy qc up lo) H locs) {j : Nat} (hj : j < 4) (hdg : decode cc pc = .ok (.baload, 1)) (go : W p l e R s m args below meth c H locs cells slots Q (F0 m (pc + 1) ls (.int (mv j) :: rest))) : W p l e R s m args below meth c H locs cells slots Q (F0 m pc ls (.int (nI j) :: .ref (a 8) :: rest)) := by
  obtain ⟨hx, hb, hr, hml, hown, hts, hlk, hA⟩ := C
  obtain ⟨hK, hP, hD, hS⟩ := G
  refine va_zald hx hb hK hP 8 1 rfl rfl (vp_in_nI hj (by decide)) hdg ?_
  rw [nI_clamp (Nat.lt_trans hj (by decide))]; exact go
theorem sX_mv (C : mg_cx p s m args meth c cc ret nL own A) (G : mg_wd D (mg_ty cI cZ) A s (wX a cI cZ pt kk ax ay sx sy mx my mc mv mb qx qy qc up lo) H locs) {j : Nat} {v : Int32} (hj : j < 4) (hdg : decode cc pc = .ok (.bastore, 1)) (go : ∀ (H1 : Heap) (locs1 : List Loc), mg_wd D (mg_ty cI cZ) A s (wX a cI cZ pt kk ax ay sx sy mx my mc (upd mv j (vp_nar .boolean v)) mb qx qy qc up lo) H1 locs1 → W p l e R s m args below meth c H1 locs1 cells slots Q (F0 m (pc + 1) ls (rest))) : W p l e R s m args below meth c H locs cells slots Q (F0 m pc ls (.int v :: .int (nI j) :: .ref (a 8) :: rest)) := by
  obtain ⟨hx, hb, hr, hml, hown, hts, hlk, hA⟩ := C
  obtain ⟨hK, hP, hD, hS⟩ := G
  refine va_zast hx hb hK hP hD hS 8 1 rfl rfl (vp_in_nI hj (by decide)) hdg (fun H1 locs1 hP1 hD1 hS1 => ?_)
  rw [nI_clamp (Nat.lt_trans hj (by decide))] at hP1 hD1
  exact go H1 locs1 ⟨hK, hP1, hD1, hS1⟩
theorem gX_mb (C : mg_cx p s m args meth c cc ret nL RX0 A) (G : mg_wd D (mg_ty cI cZ) A s (wX a cI cZ pt kk ax ay sx sy mx my mc mv mb qx qy qc up lo) H locs) (hdg : decode cc pc = .ok (.getfield 35, 3)) (go : W p l e R s m args below meth c H locs cells slots Q (F0 m (pc + 3) ls (.ref (a 9) :: rest))) : W p l e R s m args below meth c H locs cells slots Q (F0 m pc ls (.ref (a 0) :: rest)) := by
  obtain ⟨hx, hb, hr, hml, hown, hts, hlk, hA⟩ := C
  obtain ⟨hK, hP, hD, hS⟩ := G
  exact va_get (D := D) (ci := 0) (v := .ref (a 9)) (C := RX0) (T := TX0) (N := 16) hx hb hts in_X0 hown hK hP 0 rfl rfl 10 (by decide) (hts _ q34) (fun _ h9 => h9) rfl hdg go
theorem lX_mb (C : mg_cx p s m args meth c cc ret nL own A) (G : mg_wd D (mg_ty cI cZ) A s (wX a cI cZ pt kk ax ay sx sy mx my mc mv mb qx qy qc up lo) H locs) {j : Nat} (hj : j < 24) (hdg : decode cc pc = .ok (.iaload, 1)) (go : W p l e R s m args below meth c H locs cells slots Q (F0 m (pc + 1) ls (.int (mb j) :: rest))) : W p l e R s m args below meth c H locs cells slots Q (F0 m pc ls (.int (nI j) :: .ref (a 9) :: rest)) := by
  obtain ⟨hx, hb, hr, hml, hown, hts, hlk, hA⟩ := C
  obtain ⟨hK, hP, hD, hS⟩ := G
  refine va_iald hx hb hK hP 9 0 rfl rfl (vp_in_nI hj (by decide)) hdg ?_
  rw [nI_clamp (Nat.lt_trans hj (by decide))]; exact go
theorem sX_mb (C : mg_cx p s m args meth c cc ret nL own A) (G : mg_wd D (mg_ty cI cZ) A s (wX a cI cZ pt kk ax ay sx sy mx my mc mv mb qx qy qc up lo) H locs) {j : Nat} {v : Int32} (hj : j < 24) (hdg : decode cc pc = .ok (.iastore, 1)) (go : ∀ (H1 : Heap) (locs1 : List Loc), mg_wd D (mg_ty cI cZ) A s (wX a cI cZ pt kk ax ay sx sy mx my mc mv (upd mb j v) qx qy qc up lo) H1 locs1 → W p l e R s m args below meth c H1 locs1 cells slots Q (F0 m (pc + 1) ls (rest))) : W p l e R s m args below meth c H locs cells slots Q (F0 m pc ls (.int v :: .int (nI j) :: .ref (a 9) :: rest)) := by
  obtain ⟨hx, hb, hr, hml, hown, hts, hlk, hA⟩ := C
  obtain ⟨hK, hP, hD, hS⟩ := G
  refine va_iast hx hb hK hP hD hS 9 0 rfl rfl (vp_in_nI hj (by decide)) hdg (fun H1 locs1 hP1 hD1 hS1 => ?_)
  rw [nI_clamp (Nat.lt_trans hj (by decide))] at hP1 hD1
  exact go H1 locs1 ⟨hK, hP1, hD1, hS1⟩
theorem gX_qx (C : mg_cx p s m args meth c cc ret nL RX0 A) (G : mg_wd D (mg_ty cI cZ) A s (wX a cI cZ pt kk ax ay sx sy mx my mc mv mb qx qy qc up lo) H locs) (hdg : decode cc pc = .ok (.getfield 38, 3)) (go : W p l e R s m args below meth c H locs cells slots Q (F0 m (pc + 3) ls (.ref (a 10) :: rest))) : W p l e R s m args below meth c H locs cells slots Q (F0 m pc ls (.ref (a 0) :: rest)) := by
  obtain ⟨hx, hb, hr, hml, hown, hts, hlk, hA⟩ := C
  obtain ⟨hK, hP, hD, hS⟩ := G
  exact va_get (D := D) (ci := 0) (v := .ref (a 10)) (C := RX0) (T := TX0) (N := 16) hx hb hts in_X0 hown hK hP 0 rfl rfl 11 (by decide) (hts _ q35) (fun _ h9 => h9) rfl hdg go
theorem lX_qx (C : mg_cx p s m args meth c cc ret nL own A) (G : mg_wd D (mg_ty cI cZ) A s (wX a cI cZ pt kk ax ay sx sy mx my mc mv mb qx qy qc up lo) H locs) {j : Nat} (hj : j < 4) (hdg : decode cc pc = .ok (.iaload, 1)) (go : W p l e R s m args below meth c H locs cells slots Q (F0 m (pc + 1) ls (.int (qx j) :: rest))) : W p l e R s m args below meth c H locs cells slots Q (F0 m pc ls (.int (nI j) :: .ref (a 10) :: rest)) := by
  obtain ⟨hx, hb, hr, hml, hown, hts, hlk, hA⟩ := C
  obtain ⟨hK, hP, hD, hS⟩ := G
  refine va_iald hx hb hK hP 10 0 rfl rfl (vp_in_nI hj (by decide)) hdg ?_
  rw [nI_clamp (Nat.lt_trans hj (by decide))]; exact go
theorem sX_qx (C : mg_cx p s m args meth c cc ret nL own A) (G : mg_wd D (mg_ty cI cZ) A s (wX a cI cZ pt kk ax ay sx sy mx my mc mv mb qx qy qc up lo) H locs) {j : Nat} {v : Int32} (hj : j < 4) (hdg : decode cc pc = .ok (.iastore, 1)) (go : ∀ (H1 : Heap) (locs1 : List Loc), mg_wd D (mg_ty cI cZ) A s (wX a cI cZ pt kk ax ay sx sy mx my mc mv mb (upd qx j v) qy qc up lo) H1 locs1 → W p l e R s m args below meth c H1 locs1 cells slots Q (F0 m (pc + 1) ls (rest))) : W p l e R s m args below meth c H locs cells slots Q (F0 m pc ls (.int v :: .int (nI j) :: .ref (a 10) :: rest)) := by
  obtain ⟨hx, hb, hr, hml, hown, hts, hlk, hA⟩ := C
  obtain ⟨hK, hP, hD, hS⟩ := G
  refine va_iast hx hb hK hP hD hS 10 0 rfl rfl (vp_in_nI hj (by decide)) hdg (fun H1 locs1 hP1 hD1 hS1 => ?_)
  rw [nI_clamp (Nat.lt_trans hj (by decide))] at hP1 hD1
  exact go H1 locs1 ⟨hK, hP1, hD1, hS1⟩
theorem gX_qy (C : mg_cx p s m args meth c cc ret nL RX0 A) (G : mg_wd D (mg_ty cI cZ) A s (wX a cI cZ pt kk ax ay sx sy mx my mc mv mb qx qy qc up lo) H locs) (hdg : decode cc pc = .ok (.getfield 41, 3)) (go : W p l e R s m args below meth c H locs cells slots Q (F0 m (pc + 3) ls (.ref (a 11) :: rest))) : W p l e R s m args below meth c H locs cells slots Q (F0 m pc ls (.ref (a 0) :: rest)) := by
  obtain ⟨hx, hb, hr, hml, hown, hts, hlk, hA⟩ := C
  obtain ⟨hK, hP, hD, hS⟩ := G
  exact va_get (D := D) (ci := 0) (v := .ref (a 11)) (C := RX0) (T := TX0) (N := 16) hx hb hts in_X0 hown hK hP 0 rfl rfl 12 (by decide) (hts _ q36) (fun _ h9 => h9) rfl hdg go
theorem lX_qy (C : mg_cx p s m args meth c cc ret nL own A) (G : mg_wd D (mg_ty cI cZ) A s (wX a cI cZ pt kk ax ay sx sy mx my mc mv mb qx qy qc up lo) H locs) {j : Nat} (hj : j < 4) (hdg : decode cc pc = .ok (.iaload, 1)) (go : W p l e R s m args below meth c H locs cells slots Q (F0 m (pc + 1) ls (.int (qy j) :: rest))) : W p l e R s m args below meth c H locs cells slots Q (F0 m pc ls (.int (nI j) :: .ref (a 11) :: rest)) := by
  obtain ⟨hx, hb, hr, hml, hown, hts, hlk, hA⟩ := C
  obtain ⟨hK, hP, hD, hS⟩ := G
  refine va_iald hx hb hK hP 11 0 rfl rfl (vp_in_nI hj (by decide)) hdg ?_
  rw [nI_clamp (Nat.lt_trans hj (by decide))]; exact go
theorem sX_qy (C : mg_cx p s m args meth c cc ret nL own A) (G : mg_wd D (mg_ty cI cZ) A s (wX a cI cZ pt kk ax ay sx sy mx my mc mv mb qx qy qc up lo) H locs) {j : Nat} {v : Int32} (hj : j < 4) (hdg : decode cc pc = .ok (.iastore, 1)) (go : ∀ (H1 : Heap) (locs1 : List Loc), mg_wd D (mg_ty cI cZ) A s (wX a cI cZ pt kk ax ay sx sy mx my mc mv mb qx (upd qy j v) qc up lo) H1 locs1 → W p l e R s m args below meth c H1 locs1 cells slots Q (F0 m (pc + 1) ls (rest))) : W p l e R s m args below meth c H locs cells slots Q (F0 m pc ls (.int v :: .int (nI j) :: .ref (a 11) :: rest)) := by
  obtain ⟨hx, hb, hr, hml, hown, hts, hlk, hA⟩ := C
  obtain ⟨hK, hP, hD, hS⟩ := G
  refine va_iast hx hb hK hP hD hS 11 0 rfl rfl (vp_in_nI hj (by decide)) hdg (fun H1 locs1 hP1 hD1 hS1 => ?_)
  rw [nI_clamp (Nat.lt_trans hj (by decide))] at hP1 hD1
  exact go H1 locs1 ⟨hK, hP1, hD1, hS1⟩
theorem gX_qc (C : mg_cx p s m args meth c cc ret nL RX0 A) (G : mg_wd D (mg_ty cI cZ) A s (wX a cI cZ pt kk ax ay sx sy mx my mc mv mb qx qy qc up lo) H locs) (hdg : decode cc pc = .ok (.getfield 44, 3)) (go : W p l e R s m args below meth c H locs cells slots Q (F0 m (pc + 3) ls (.ref (a 12) :: rest))) : W p l e R s m args below meth c H locs cells slots Q (F0 m pc ls (.ref (a 0) :: rest)) := by
  obtain ⟨hx, hb, hr, hml, hown, hts, hlk, hA⟩ := C
  obtain ⟨hK, hP, hD, hS⟩ := G
  exact va_get (D := D) (ci := 0) (v := .ref (a 12)) (C := RX0) (T := TX0) (N := 16) hx hb hts in_X0 hown hK hP 0 rfl rfl 13 (by decide) (hts _ q37) (fun _ h9 => h9) rfl hdg go
theorem lX_qc (C : mg_cx p s m args meth c cc ret nL own A) (G : mg_wd D (mg_ty cI cZ) A s (wX a cI cZ pt kk ax ay sx sy mx my mc mv mb qx qy qc up lo) H locs) {j : Nat} (hj : j < 4) (hdg : decode cc pc = .ok (.iaload, 1)) (go : W p l e R s m args below meth c H locs cells slots Q (F0 m (pc + 1) ls (.int (qc j) :: rest))) : W p l e R s m args below meth c H locs cells slots Q (F0 m pc ls (.int (nI j) :: .ref (a 12) :: rest)) := by
  obtain ⟨hx, hb, hr, hml, hown, hts, hlk, hA⟩ := C
  obtain ⟨hK, hP, hD, hS⟩ := G
  refine va_iald hx hb hK hP 12 0 rfl rfl (vp_in_nI hj (by decide)) hdg ?_
  rw [nI_clamp (Nat.lt_trans hj (by decide))]; exact go
theorem sX_qc (C : mg_cx p s m args meth c cc ret nL own A) (G : mg_wd D (mg_ty cI cZ) A s (wX a cI cZ pt kk ax ay sx sy mx my mc mv mb qx qy qc up lo) H locs) {j : Nat} {v : Int32} (hj : j < 4) (hdg : decode cc pc = .ok (.iastore, 1)) (go : ∀ (H1 : Heap) (locs1 : List Loc), mg_wd D (mg_ty cI cZ) A s (wX a cI cZ pt kk ax ay sx sy mx my mc mv mb qx qy (upd qc j v) up lo) H1 locs1 → W p l e R s m args below meth c H1 locs1 cells slots Q (F0 m (pc + 1) ls (rest))) : W p l e R s m args below meth c H locs cells slots Q (F0 m pc ls (.int v :: .int (nI j) :: .ref (a 12) :: rest)) := by
  obtain ⟨hx, hb, hr, hml, hown, hts, hlk, hA⟩ := C
  obtain ⟨hK, hP, hD, hS⟩ := G
  refine va_iast hx hb hK hP hD hS 12 0 rfl rfl (vp_in_nI hj (by decide)) hdg (fun H1 locs1 hP1 hD1 hS1 => ?_)
  rw [nI_clamp (Nat.lt_trans hj (by decide))] at hP1 hD1
  exact go H1 locs1 ⟨hK, hP1, hD1, hS1⟩
theorem gX_up (C : mg_cx p s m args meth c cc ret nL RX0 A) (G : mg_wd D (mg_ty cI cZ) A s (wX a cI cZ pt kk ax ay sx sy mx my mc mv mb qx qy qc up lo) H locs) (hdg : decode cc pc = .ok (.getfield 76, 3)) (go : W p l e R s m args below meth c H locs cells slots Q (F0 m (pc + 3) ls (.long up :: rest))) : W p l e R s m args below meth c H locs cells slots Q (F0 m pc ls (.ref (a 0) :: rest)) := by
  obtain ⟨hx, hb, hr, hml, hown, hts, hlk, hA⟩ := C
  obtain ⟨hK, hP, hD, hS⟩ := G
  exact va_get (D := D) (ci := 0) (v := .long up) (C := RX0) (T := TX0) (N := 16) hx hb hts in_X0 hown hK hP 0 rfl rfl 14 (by decide) (hts _ q38) (fun _ h9 => h9) rfl hdg go
theorem pX_up (C : mg_cx p s m args meth c cc ret nL RX0 A) (G : mg_wd D (mg_ty cI cZ) A s (wX a cI cZ pt kk ax ay sx sy mx my mc mv mb qx qy qc up lo) H locs) {v : Int64} (hdg : decode cc pc = .ok (.putfield 76, 3)) (go : ∀ (H1 : Heap) (locs1 : List Loc), mg_wd D (mg_ty cI cZ) A s (wX a cI cZ pt kk ax ay sx sy mx my mc mv mb qx qy qc v lo) H1 locs1 → W p l e R s m args below meth c H1 locs1 cells slots Q (F0 m (pc + 3) ls (rest))) : W p l e R s m args below meth c H locs cells slots Q (F0 m pc ls (.long v :: .ref (a 0) :: rest)) := by
  obtain ⟨hx, hb, hr, hml, hown, hts, hlk, hA⟩ := C
  obtain ⟨hK, hP, hD, hS⟩ := G
  exact va_put (D := D) (ci := 0) (v := .long v) (ty := .long) (C := RX0) (T := TX0) (N := 16) hx hb hts in_X0 tyX0 tyX0_ok nmX0 hown hK hP hD hS 0 rfl rfl 14 (by decide) (hts _ q38) (fun _ h9 => h9) rfl (by decide +kernel) rfl rfl (Nat.le_of_ble_eq_true rfl) hdg (fun H1 locs1 hP1 hD1 hS1 => go H1 locs1 ⟨hK, hP1, hD1, hS1⟩)
theorem gX_lo (C : mg_cx p s m args meth c cc ret nL RX0 A) (G : mg_wd D (mg_ty cI cZ) A s (wX a cI cZ pt kk ax ay sx sy mx my mc mv mb qx qy qc up lo) H locs) (hdg : decode cc pc = .ok (.getfield 80, 3)) (go : W p l e R s m args below meth c H locs cells slots Q (F0 m (pc + 3) ls (.long lo :: rest))) : W p l e R s m args below meth c H locs cells slots Q (F0 m pc ls (.ref (a 0) :: rest)) := by
  obtain ⟨hx, hb, hr, hml, hown, hts, hlk, hA⟩ := C
  obtain ⟨hK, hP, hD, hS⟩ := G
  exact va_get (D := D) (ci := 0) (v := .long lo) (C := RX0) (T := TX0) (N := 16) hx hb hts in_X0 hown hK hP 0 rfl rfl 15 (by decide) (hts _ q39) (fun _ h9 => h9) rfl hdg go
theorem pX_lo (C : mg_cx p s m args meth c cc ret nL RX0 A) (G : mg_wd D (mg_ty cI cZ) A s (wX a cI cZ pt kk ax ay sx sy mx my mc mv mb qx qy qc up lo) H locs) {v : Int64} (hdg : decode cc pc = .ok (.putfield 80, 3)) (go : ∀ (H1 : Heap) (locs1 : List Loc), mg_wd D (mg_ty cI cZ) A s (wX a cI cZ pt kk ax ay sx sy mx my mc mv mb qx qy qc up v) H1 locs1 → W p l e R s m args below meth c H1 locs1 cells slots Q (F0 m (pc + 3) ls (rest))) : W p l e R s m args below meth c H locs cells slots Q (F0 m pc ls (.long v :: .ref (a 0) :: rest)) := by
  obtain ⟨hx, hb, hr, hml, hown, hts, hlk, hA⟩ := C
  obtain ⟨hK, hP, hD, hS⟩ := G
  exact va_put (D := D) (ci := 0) (v := .long v) (ty := .long) (C := RX0) (T := TX0) (N := 16) hx hb hts in_X0 tyX0 tyX0_ok nmX0 hown hK hP hD hS 0 rfl rfl 15 (by decide) (hts _ q39) (fun _ h9 => h9) rfl (by decide +kernel) rfl rfl (Nat.le_of_ble_eq_true rfl) hdg (fun H1 locs1 hP1 hD1 hS1 => go H1 locs1 ⟨hK, hP1, hD1, hS1⟩)
theorem gM_pt (C : mg_cx p s m args meth c cc ret nL RX1 A) (G : mg_wd D (mg_ty cI cZ) A s (wM b cI pt kk ax ay mb sx sy mx my mc) H locs) (hdg : decode cc pc = .ok (.getfield 45, 3)) (go : W p l e R s m args below meth c H locs cells slots Q (F0 m (pc + 3) ls (.int pt :: rest))) : W p l e R s m args below meth c H locs cells slots Q (F0 m pc ls (.ref (b 0) :: rest)) := by
  obtain ⟨hx, hb, hr, hml, hown, hts, hlk, hA⟩ := C
  obtain ⟨hK, hP, hD, hS⟩ := G
  exact va_get (D := D) (ci := 1) (v := .int pt) (C := RX1) (T := TX1) (N := 10) hx hb hts in_X1 hown hK hP 0 rfl rfl 0 (by decide) (hts _ q155) (fun _ h9 => h9) rfl hdg go
theorem pM_pt (C : mg_cx p s m args meth c cc ret nL RX1 A) (G : mg_wd D (mg_ty cI cZ) A s (wM b cI pt kk ax ay mb sx sy mx my mc) H locs) {v : Int32} (hdg : decode cc pc = .ok (.putfield 45, 3)) (go : ∀ (H1 : Heap) (locs1 : List Loc), mg_wd D (mg_ty cI cZ) A s (wM b cI v kk ax ay mb sx sy mx my mc) H1 locs1 → W p l e R s m args below meth c H1 locs1 cells slots Q (F0 m (pc + 3) ls (rest))) : W p l e R s m args below meth c H locs cells slots Q (F0 m pc ls (.int v :: .ref (b 0) :: rest)) := by
  obtain ⟨hx, hb, hr, hml, hown, hts, hlk, hA⟩ := C
  obtain ⟨hK, hP, hD, hS⟩ := G
  exact va_put (D := D) (ci := 1) (v := .int v) (ty := .int) (C := RX1) (T := TX1) (N := 10) hx hb hts in_X1 tyX1 tyX1_ok nmX1 hown hK hP hD hS 0 rfl rfl 0 (by decide) (hts _ q155) (fun _ h9 => h9) rfl (by decide +kernel) rfl rfl (Nat.le_of_ble_eq_true rfl) hdg (fun H1 locs1 hP1 hD1 hS1 => go H1 locs1 ⟨hK, hP1, hD1, hS1⟩)
theorem gM_ax (C : mg_cx p s m args meth c cc ret nL RX1 A) (G : mg_wd D (mg_ty cI cZ) A s (wM b cI pt kk ax ay mb sx sy mx my mc) H locs) (hdg : decode cc pc = .ok (.getfield 7, 3)) (go : W p l e R s m args below meth c H locs cells slots Q (F0 m (pc + 3) ls (.ref (b 1) :: rest))) : W p l e R s m args below meth c H locs cells slots Q (F0 m pc ls (.ref (b 0) :: rest)) := by
  obtain ⟨hx, hb, hr, hml, hown, hts, hlk, hA⟩ := C
  obtain ⟨hK, hP, hD, hS⟩ := G
  exact va_get (D := D) (ci := 1) (v := .ref (b 1)) (C := RX1) (T := TX1) (N := 10) hx hb hts in_X1 hown hK hP 0 rfl rfl 1 (by decide) (hts _ q156) (fun _ h9 => h9) rfl hdg go
theorem lM_ax (C : mg_cx p s m args meth c cc ret nL own A) (G : mg_wd D (mg_ty cI cZ) A s (wM b cI pt kk ax ay mb sx sy mx my mc) H locs) {j : Nat} (hj : j < 24) (hdg : decode cc pc = .ok (.iaload, 1)) (go : W p l e R s m args below meth c H locs cells slots Q (F0 m (pc + 1) ls (.int (ax j) :: rest))) : W p l e R s m args below meth c H locs cells slots Q (F0 m pc ls (.int (nI j) :: .ref (b 1) :: rest)) := by
  obtain ⟨hx, hb, hr, hml, hown, hts, hlk, hA⟩ := C
  obtain ⟨hK, hP, hD, hS⟩ := G
  refine va_iald hx hb hK hP 1 0 rfl rfl (vp_in_nI hj (by decide)) hdg ?_
  rw [nI_clamp (Nat.lt_trans hj (by decide))]; exact go
theorem sM_ax (C : mg_cx p s m args meth c cc ret nL own A) (G : mg_wd D (mg_ty cI cZ) A s (wM b cI pt kk ax ay mb sx sy mx my mc) H locs) {j : Nat} {v : Int32} (hj : j < 24) (hdg : decode cc pc = .ok (.iastore, 1)) (go : ∀ (H1 : Heap) (locs1 : List Loc), mg_wd D (mg_ty cI cZ) A s (wM b cI pt kk (upd ax j v) ay mb sx sy mx my mc) H1 locs1 → W p l e R s m args below meth c H1 locs1 cells slots Q (F0 m (pc + 1) ls (rest))) : W p l e R s m args below meth c H locs cells slots Q (F0 m pc ls (.int v :: .int (nI j) :: .ref (b 1) :: rest)) := by
  obtain ⟨hx, hb, hr, hml, hown, hts, hlk, hA⟩ := C
  obtain ⟨hK, hP, hD, hS⟩ := G
  refine va_iast hx hb hK hP hD hS 1 0 rfl rfl (vp_in_nI hj (by decide)) hdg (fun H1 locs1 hP1 hD1 hS1 => ?_)
  rw [nI_clamp (Nat.lt_trans hj (by decide))] at hP1 hD1
  exact go H1 locs1 ⟨hK, hP1, hD1, hS1⟩
theorem gM_ay (C : mg_cx p s m args meth c cc ret nL RX1 A) (G : mg_wd D (mg_ty cI cZ) A s (wM b cI pt kk ax ay mb sx sy mx my mc) H locs) (hdg : decode cc pc = .ok (.getfield 13, 3)) (go : W p l e R s m args below meth c H locs cells slots Q (F0 m (pc + 3) ls (.ref (b 2) :: rest))) : W p l e R s m args below meth c H locs cells slots Q (F0 m pc ls (.ref (b 0) :: rest)) := by
  obtain ⟨hx, hb, hr, hml, hown, hts, hlk, hA⟩ := C
  obtain ⟨hK, hP, hD, hS⟩ := G
  exact va_get (D := D) (ci := 1) (v := .ref (b 2)) (C := RX1) (T := TX1) (N := 10) hx hb hts in_X1 hown hK hP 0 rfl rfl 2 (by decide) (hts _ q157) (fun _ h9 => h9) rfl hdg go
theorem lM_ay (C : mg_cx p s m args meth c cc ret nL own A) (G : mg_wd D (mg_ty cI cZ) A s (wM b cI pt kk ax ay mb sx sy mx my mc) H locs) {j : Nat} (hj : j < 24) (hdg : decode cc pc = .ok (.iaload, 1)) (go : W p l e R s m args below meth c H locs cells slots Q (F0 m (pc + 1) ls (.int (ay j) :: rest))) : W p l e R s m args below meth c H locs cells slots Q (F0 m pc ls (.int (nI j) :: .ref (b 2) :: rest)) := by
  obtain ⟨hx, hb, hr, hml, hown, hts, hlk, hA⟩ := C
  obtain ⟨hK, hP, hD, hS⟩ := G
  refine va_iald hx hb hK hP 2 0 rfl rfl (vp_in_nI hj (by decide)) hdg ?_
  rw [nI_clamp (Nat.lt_trans hj (by decide))]; exact go
theorem sM_ay (C : mg_cx p s m args meth c cc ret nL own A) (G : mg_wd D (mg_ty cI cZ) A s (wM b cI pt kk ax ay mb sx sy mx my mc) H locs) {j : Nat} {v : Int32} (hj : j < 24) (hdg : decode cc pc = .ok (.iastore, 1)) (go : ∀ (H1 : Heap) (locs1 : List Loc), mg_wd D (mg_ty cI cZ) A s (wM b cI pt kk ax (upd ay j v) mb sx sy mx my mc) H1 locs1 → W p l e R s m args below meth c H1 locs1 cells slots Q (F0 m (pc + 1) ls (rest))) : W p l e R s m args below meth c H locs cells slots Q (F0 m pc ls (.int v :: .int (nI j) :: .ref (b 2) :: rest)) := by
  obtain ⟨hx, hb, hr, hml, hown, hts, hlk, hA⟩ := C
  obtain ⟨hK, hP, hD, hS⟩ := G
  refine va_iast hx hb hK hP hD hS 2 0 rfl rfl (vp_in_nI hj (by decide)) hdg (fun H1 locs1 hP1 hD1 hS1 => ?_)
  rw [nI_clamp (Nat.lt_trans hj (by decide))] at hP1 hD1
  exact go H1 locs1 ⟨hK, hP1, hD1, hS1⟩
theorem gM_mb (C : mg_cx p s m args meth c cc ret nL RX1 A) (G : mg_wd D (mg_ty cI cZ) A s (wM b cI pt kk ax ay mb sx sy mx my mc) H locs) (hdg : decode cc pc = .ok (.getfield 16, 3)) (go : W p l e R s m args below meth c H locs cells slots Q (F0 m (pc + 3) ls (.ref (b 3) :: rest))) : W p l e R s m args below meth c H locs cells slots Q (F0 m pc ls (.ref (b 0) :: rest)) := by
  obtain ⟨hx, hb, hr, hml, hown, hts, hlk, hA⟩ := C
  obtain ⟨hK, hP, hD, hS⟩ := G
  exact va_get (D := D) (ci := 1) (v := .ref (b 3)) (C := RX1) (T := TX1) (N := 10) hx hb hts in_X1 hown hK hP 0 rfl rfl 3 (by decide) (hts _ q158) (fun _ h9 => h9) rfl hdg go
theorem lM_mb (C : mg_cx p s m args meth c cc ret nL own A) (G : mg_wd D (mg_ty cI cZ) A s (wM b cI pt kk ax ay mb sx sy mx my mc) H locs) {j : Nat} (hj : j < 24) (hdg : decode cc pc = .ok (.iaload, 1)) (go : W p l e R s m args below meth c H locs cells slots Q (F0 m (pc + 1) ls (.int (mb j) :: rest))) : W p l e R s m args below meth c H locs cells slots Q (F0 m pc ls (.int (nI j) :: .ref (b 3) :: rest)) := by
  obtain ⟨hx, hb, hr, hml, hown, hts, hlk, hA⟩ := C
  obtain ⟨hK, hP, hD, hS⟩ := G
  refine va_iald hx hb hK hP 3 0 rfl rfl (vp_in_nI hj (by decide)) hdg ?_
  rw [nI_clamp (Nat.lt_trans hj (by decide))]; exact go
theorem sM_mb (C : mg_cx p s m args meth c cc ret nL own A) (G : mg_wd D (mg_ty cI cZ) A s (wM b cI pt kk ax ay mb sx sy mx my mc) H locs) {j : Nat} {v : Int32} (hj : j < 24) (hdg : decode cc pc = .ok (.iastore, 1)) (go : ∀ (H1 : Heap) (locs1 : List Loc), mg_wd D (mg_ty cI cZ) A s (wM b cI pt kk ax ay (upd mb j v) sx sy mx my mc) H1 locs1 → W p l e R s m args below meth c H1 locs1 cells slots Q (F0 m (pc + 1) ls (rest))) : W p l e R s m args below meth c H locs cells slots Q (F0 m pc ls (.int v :: .int (nI j) :: .ref (b 3) :: rest)) := by
  obtain ⟨hx, hb, hr, hml, hown, hts, hlk, hA⟩ := C
  obtain ⟨hK, hP, hD, hS⟩ := G
  refine va_iast hx hb hK hP hD hS 3 0 rfl rfl (vp_in_nI hj (by decide)) hdg (fun H1 locs1 hP1 hD1 hS1 => ?_)
  rw [nI_clamp (Nat.lt_trans hj (by decide))] at hP1 hD1
  exact go H1 locs1 ⟨hK, hP1, hD1, hS1⟩
theorem gM_kk (C : mg_cx p s m args meth c cc ret nL RX1 A) (G : mg_wd D (mg_ty cI cZ) A s (wM b cI pt kk ax ay mb sx sy mx my mc) H locs) (hdg : decode cc pc = .ok (.getfield 19, 3)) (go : W p l e R s m args below meth c H locs cells slots Q (F0 m (pc + 3) ls (.int kk :: rest))) : W p l e R s m args below meth c H locs cells slots Q (F0 m pc ls (.ref (b 0) :: rest)) := by
  obtain ⟨hx, hb, hr, hml, hown, hts, hlk, hA⟩ := C
  obtain ⟨hK, hP, hD, hS⟩ := G
  exact va_get (D := D) (ci := 1) (v := .int kk) (C := RX1) (T := TX1) (N := 10) hx hb hts in_X1 hown hK hP 0 rfl rfl 4 (by decide) (hts _ q159) (fun _ h9 => h9) rfl hdg go
theorem pM_kk (C : mg_cx p s m args meth c cc ret nL RX1 A) (G : mg_wd D (mg_ty cI cZ) A s (wM b cI pt kk ax ay mb sx sy mx my mc) H locs) {v : Int32} (hdg : decode cc pc = .ok (.putfield 19, 3)) (go : ∀ (H1 : Heap) (locs1 : List Loc), mg_wd D (mg_ty cI cZ) A s (wM b cI pt v ax ay mb sx sy mx my mc) H1 locs1 → W p l e R s m args below meth c H1 locs1 cells slots Q (F0 m (pc + 3) ls (rest))) : W p l e R s m args below meth c H locs cells slots Q (F0 m pc ls (.int v :: .ref (b 0) :: rest)) := by
  obtain ⟨hx, hb, hr, hml, hown, hts, hlk, hA⟩ := C
  obtain ⟨hK, hP, hD, hS⟩ := G
  exact va_put (D := D) (ci := 1) (v := .int v) (ty := .int) (C := RX1) (T := TX1) (N := 10) hx hb hts in_X1 tyX1 tyX1_ok nmX1 hown hK hP hD hS 0 rfl rfl 4 (by decide) (hts _ q159) (fun _ h9 => h9) rfl (by decide +kernel) rfl rfl (Nat.le_of_ble_eq_true rfl) hdg (fun H1 locs1 hP1 hD1 hS1 => go H1 locs1 ⟨hK, hP1, hD1, hS1⟩)
theorem gM_sx (C : mg_cx p s m args meth c cc ret nL RX1 A) (G : mg_wd D (mg_ty cI cZ) A s (wM b cI pt kk ax ay mb sx sy mx my mc) H locs) (hdg : decode cc pc = .ok (.getfield 23, 3)) (go : W p l e R s m args below meth c H locs cells slots Q (F0 m (pc + 3) ls (.ref (b 4) :: rest))) : W p l e R s m args below meth c H locs cells slots Q (F0 m pc ls (.ref (b 0) :: rest)) := by
  obtain ⟨hx, hb, hr, hml, hown, hts, hlk, hA⟩ := C
  obtain ⟨hK, hP, hD, hS⟩ := G
  exact va_get (D := D) (ci := 1) (v := .ref (b 4)) (C := RX1) (T := TX1) (N := 10) hx hb hts in_X1 hown hK hP 0 rfl rfl 5 (by decide) (hts _ q160) (fun _ h9 => h9) rfl hdg go
theorem lM_sx (C : mg_cx p s m args meth c cc ret nL own A) (G : mg_wd D (mg_ty cI cZ) A s (wM b cI pt kk ax ay mb sx sy mx my mc) H locs) {j : Nat} (hj : j < 4) (hdg : decode cc pc = .ok (.iaload, 1)) (go : W p l e R s m args below meth c H locs cells slots Q (F0 m (pc + 1) ls (.int (sx j) :: rest))) : W p l e R s m args below meth c H locs cells slots Q (F0 m pc ls (.int (nI j) :: .ref (b 4) :: rest)) := by
  obtain ⟨hx, hb, hr, hml, hown, hts, hlk, hA⟩ := C
  obtain ⟨hK, hP, hD, hS⟩ := G
  refine va_iald hx hb hK hP 4 0 rfl rfl (vp_in_nI hj (by decide)) hdg ?_
  rw [nI_clamp (Nat.lt_trans hj (by decide))]; exact go
theorem sM_sx (C : mg_cx p s m args meth c cc ret nL own A) (G : mg_wd D (mg_ty cI cZ) A s (wM b cI pt kk ax ay mb sx sy mx my mc) H locs) {j : Nat} {v : Int32} (hj : j < 4) (hdg : decode cc pc = .ok (.iastore, 1)) (go : ∀ (H1 : Heap) (locs1 : List Loc), mg_wd D (mg_ty cI cZ) A s (wM b cI pt kk ax ay mb (upd sx j v) sy mx my mc) H1 locs1 → W p l e R s m args below meth c H1 locs1 cells slots Q (F0 m (pc + 1) ls (rest))) : W p l e R s m args below meth c H locs cells slots Q (F0 m pc ls (.int v :: .int (nI j) :: .ref (b 4) :: rest)) := by
  obtain ⟨hx, hb, hr, hml, hown, hts, hlk, hA⟩ := C
  obtain ⟨hK, hP, hD, hS⟩ := G
  refine va_iast hx hb hK hP hD hS 4 0 rfl rfl (vp_in_nI hj (by decide)) hdg (fun H1 locs1 hP1 hD1 hS1 => ?_)
  rw [nI_clamp (Nat.lt_trans hj (by decide))] at hP1 hD1
  exact go H1 locs1 ⟨hK, hP1, hD1, hS1⟩
theorem gM_sy (C : mg_cx p s m args meth c cc ret nL RX1 A) (G : mg_wd D (mg_ty cI cZ) A s (wM b cI pt kk ax ay mb sx sy mx my mc) H locs) (hdg : decode cc pc = .ok (.getfield 26, 3)) (go : W p l e R s m args below meth c H locs cells slots Q (F0 m (pc + 3) ls (.ref (b 5) :: rest))) : W p l e R s m args below meth c H locs cells slots Q (F0 m pc ls (.ref (b 0) :: rest)) := by
  obtain ⟨hx, hb, hr, hml, hown, hts, hlk, hA⟩ := C
  obtain ⟨hK, hP, hD, hS⟩ := G
  exact va_get (D := D) (ci := 1) (v := .ref (b 5)) (C := RX1) (T := TX1) (N := 10) hx hb hts in_X1 hown hK hP 0 rfl rfl 6 (by decide) (hts _ q161) (fun _ h9 => h9) rfl hdg go
theorem lM_sy (C : mg_cx p s m args meth c cc ret nL own A) (G : mg_wd D (mg_ty cI cZ) A s (wM b cI pt kk ax ay mb sx sy mx my mc) H locs) {j : Nat} (hj : j < 4) (hdg : decode cc pc = .ok (.iaload, 1)) (go : W p l e R s m args below meth c H locs cells slots Q (F0 m (pc + 1) ls (.int (sy j) :: rest))) : W p l e R s m args below meth c H locs cells slots Q (F0 m pc ls (.int (nI j) :: .ref (b 5) :: rest)) := by
  obtain ⟨hx, hb, hr, hml, hown, hts, hlk, hA⟩ := C
  obtain ⟨hK, hP, hD, hS⟩ := G
  refine va_iald hx hb hK hP 5 0 rfl rfl (vp_in_nI hj (by decide)) hdg ?_
  rw [nI_clamp (Nat.lt_trans hj (by decide))]; exact go
theorem sM_sy (C : mg_cx p s m args meth c cc ret nL own A) (G : mg_wd D (mg_ty cI cZ) A s (wM b cI pt kk ax ay mb sx sy mx my mc) H locs) {j : Nat} {v : Int32} (hj : j < 4) (hdg : decode cc pc = .ok (.iastore, 1)) (go : ∀ (H1 : Heap) (locs1 : List Loc), mg_wd D (mg_ty cI cZ) A s (wM b cI pt kk ax ay mb sx (upd sy j v) mx my mc) H1 locs1 → W p l e R s m args below meth c H1 locs1 cells slots Q (F0 m (pc + 1) ls (rest))) : W p l e R s m args below meth c H locs cells slots Q (F0 m pc ls (.int v :: .int (nI j) :: .ref (b 5) :: rest)) := by
  obtain ⟨hx, hb, hr, hml, hown, hts, hlk, hA⟩ := C
  obtain ⟨hK, hP, hD, hS⟩ := G
  refine va_iast hx hb hK hP hD hS 5 0 rfl rfl (vp_in_nI hj (by decide)) hdg (fun H1 locs1 hP1 hD1 hS1 => ?_)
  rw [nI_clamp (Nat.lt_trans hj (by decide))] at hP1 hD1
  exact go H1 locs1 ⟨hK, hP1, hD1, hS1⟩
theorem gM_mx (C : mg_cx p s m args meth c cc ret nL RX1 A) (G : mg_wd D (mg_ty cI cZ) A s (wM b cI pt kk ax ay mb sx sy mx my mc) H locs) (hdg : decode cc pc = .ok (.getfield 29, 3)) (go : W p l e R s m args below meth c H locs cells slots Q (F0 m (pc + 3) ls (.ref (b 6) :: rest))) : W p l e R s m args below meth c H locs cells slots Q (F0 m pc ls (.ref (b 0) :: rest)) := by
  obtain ⟨hx, hb, hr, hml, hown, hts, hlk, hA⟩ := C
  obtain ⟨hK, hP, hD, hS⟩ := G
  exact va_get (D := D) (ci := 1) (v := .ref (b 6)) (C := RX1) (T := TX1) (N := 10) hx hb hts in_X1 hown hK hP 0 rfl rfl 7 (by decide) (hts _ q162) (fun _ h9 => h9) rfl hdg go
theorem lM_mx (C : mg_cx p s m args meth c cc ret nL own A) (G : mg_wd D (mg_ty cI cZ) A s (wM b cI pt kk ax ay mb sx sy mx my mc) H locs) {j : Nat} (hj : j < 4) (hdg : decode cc pc = .ok (.iaload, 1)) (go : W p l e R s m args below meth c H locs cells slots Q (F0 m (pc + 1) ls (.int (mx j) :: rest))) : W p l e R s m args below meth c H locs cells slots Q (F0 m pc ls (.int (nI j) :: .ref (b 6) :: rest)) := by
  obtain ⟨hx, hb, hr, hml, hown, hts, hlk, hA⟩ := C
  obtain ⟨hK, hP, hD, hS⟩ := G
  refine va_iald hx hb hK hP 6 0 rfl rfl (vp_in_nI hj (by decide)) hdg ?_
  rw [nI_clamp (Nat.lt_trans hj (by decide))]; exact go
theorem sM_mx (C : mg_cx p s m args meth c cc ret nL own A) (G : mg_wd D (mg_ty cI cZ) A s (wM b cI pt kk ax ay mb sx sy mx my mc) H locs) {j : Nat} {v : Int32} (hj : j < 4) (hdg : decode cc pc = .ok (.iastore, 1)) (go : ∀ (H1 : Heap) (locs1 : List Loc), mg_wd D (mg_ty cI cZ) A s (wM b cI pt kk ax ay mb sx sy (upd mx j v) my mc) H1 locs1 → W p l e R s m args below meth c H1 locs1 cells slots Q (F0 m (pc + 1) ls (rest))) : W p l e R s m args below meth c H locs cells slots Q (F0 m pc ls (.int v :: .int (nI j) :: .ref (b 6) :: rest)) := by
  obtain ⟨hx, hb, hr, hml, hown, hts, hlk, hA⟩ := C
  obtain ⟨hK, hP, hD, hS⟩ := G
  refine va_iast hx hb hK hP hD hS 6 0 rfl rfl (vp_in_nI hj (by decide)) hdg (fun H1 locs1 hP1 hD1 hS1 => ?_)
  rw [nI_clamp (Nat.lt_trans hj (by decide))] at hP1 hD1
  exact go H1 locs1 ⟨hK, hP1, hD1, hS1⟩
theorem gM_my (C : mg_cx p s m args meth c cc ret nL RX1 A) (G : mg_wd D (mg_ty cI cZ) A s (wM b cI pt kk ax ay mb sx sy mx my mc) H locs) (hdg : decode cc pc = .ok (.getfield 32, 3)) (go : W p l e R s m args below meth c H locs cells slots Q (F0 m (pc + 3) ls (.ref (b 7) :: rest))) : W p l e R s m args below meth c H locs cells slots Q (F0 m pc ls (.ref (b 0) :: rest)) := by
  obtain ⟨hx, hb, hr, hml, hown, hts, hlk, hA⟩ := C
  obtain ⟨hK, hP, hD, hS⟩ := G
  exact va_get (D := D) (ci := 1) (v := .ref (b 7)) (C := RX1) (T := TX1) (N := 10) hx hb hts in_X1 hown hK hP 0 rfl rfl 8 (by decide) (hts _ q163) (fun _ h9 => h9) rfl hdg go
theorem lM_my (C : mg_cx p s m args meth c cc ret nL own A) (G : mg_wd D (mg_ty cI cZ) A s (wM b cI pt kk ax ay mb sx sy mx my mc) H locs) {j : Nat} (hj : j < 4) (hdg : decode cc pc = .ok (.iaload, 1)) (go : W p l e R s m args below meth c H locs cells slots Q (F0 m (pc + 1) ls (.int (my j) :: rest))) : W p l e R s m args below meth c H locs cells slots Q (F0 m pc ls (.int (nI j) :: .ref (b 7) :: rest)) := by
  obtain ⟨hx, hb, hr, hml, hown, hts, hlk, hA⟩ := C
  obtain ⟨hK, hP, hD, hS⟩ := G
  refine va_iald hx hb hK hP 7 0 rfl rfl (vp_in_nI hj (by decide)) hdg ?_
  rw [nI_clamp (Nat.lt_trans hj (by decide))]; exact go
theorem sM_my (C : mg_cx p s m args meth c cc ret nL own A) (G : mg_wd D (mg_ty cI cZ) A s (wM b cI pt kk ax ay mb sx sy mx my mc) H locs) {j : Nat} {v : Int32} (hj : j < 4) (hdg : decode cc pc = .ok (.iastore, 1)) (go : ∀ (H1 : Heap) (locs1 : List Loc), mg_wd D (mg_ty cI cZ) A s (wM b cI pt kk ax ay mb sx sy mx (upd my j v) mc) H1 locs1 → W p l e R s m args below meth c H1 locs1 cells slots Q (F0 m (pc + 1) ls (rest))) : W p l e R s m args below meth c H locs cells slots Q (F0 m pc ls (.int v :: .int (nI j) :: .ref (b 7) :: rest)) := by
  obtain ⟨hx, hb, hr, hml, hown, hts, hlk, hA⟩ := C
  obtain ⟨hK, hP, hD, hS⟩ := G
  refine va_iast hx hb hK hP hD hS 7 0 rfl rfl (vp_in_nI hj (by decide)) hdg (fun H1 locs1 hP1 hD1 hS1 => ?_)
  rw [nI_clamp (Nat.lt_trans hj (by decide))] at hP1 hD1
  exact go H1 locs1 ⟨hK, hP1, hD1, hS1⟩
theorem gM_mc (C : mg_cx p s m args meth c cc ret nL RX1 A) (G : mg_wd D (mg_ty cI cZ) A s (wM b cI pt kk ax ay mb sx sy mx my mc) H locs) (hdg : decode cc pc = .ok (.getfield 35, 3)) (go : W p l e R s m args below meth c H locs cells slots Q (F0 m (pc + 3) ls (.ref (b 8) :: rest))) : W p l e R s m args below meth c H locs cells slots Q (F0 m pc ls (.ref (b 0) :: rest)) := by
  obtain ⟨hx, hb, hr, hml, hown, hts, hlk, hA⟩ := C
  obtain ⟨hK, hP, hD, hS⟩ := G
  exact va_get (D := D) (ci := 1) (v := .ref (b 8)) (C := RX1) (T := TX1) (N := 10) hx hb hts in_X1 hown hK hP 0 rfl rfl 9 (by decide) (hts _ q164) (fun _ h9 => h9) rfl hdg go
theorem lM_mc (C : mg_cx p s m args meth c cc ret nL own A) (G : mg_wd D (mg_ty cI cZ) A s (wM b cI pt kk ax ay mb sx sy mx my mc) H locs) {j : Nat} (hj : j < 4) (hdg : decode cc pc = .ok (.iaload, 1)) (go : W p l e R s m args below meth c H locs cells slots Q (F0 m (pc + 1) ls (.int (mc j) :: rest))) : W p l e R s m args below meth c H locs cells slots Q (F0 m pc ls (.int (nI j) :: .ref (b 8) :: rest)) := by
  obtain ⟨hx, hb, hr, hml, hown, hts, hlk, hA⟩ := C
  obtain ⟨hK, hP, hD, hS⟩ := G
  refine va_iald hx hb hK hP 8 0 rfl rfl (vp_in_nI hj (by decide)) hdg ?_
  rw [nI_clamp (Nat.lt_trans hj (by decide))]; exact go
theorem sM_mc (C : mg_cx p s m args meth c cc ret nL own A) (G : mg_wd D (mg_ty cI cZ) A s (wM b cI pt kk ax ay mb sx sy mx my mc) H locs) {j : Nat} {v : Int32} (hj : j < 4) (hdg : decode cc pc = .ok (.iastore, 1)) (go : ∀ (H1 : Heap) (locs1 : List Loc), mg_wd D (mg_ty cI cZ) A s (wM b cI pt kk ax ay mb sx sy mx my (upd mc j v)) H1 locs1 → W p l e R s m args below meth c H1 locs1 cells slots Q (F0 m (pc + 1) ls (rest))) : W p l e R s m args below meth c H locs cells slots Q (F0 m pc ls (.int v :: .int (nI j) :: .ref (b 8) :: rest)) := by
  obtain ⟨hx, hb, hr, hml, hown, hts, hlk, hA⟩ := C
  obtain ⟨hK, hP, hD, hS⟩ := G
  refine va_iast hx hb hK hP hD hS 8 0 rfl rfl (vp_in_nI hj (by decide)) hdg (fun H1 locs1 hP1 hD1 hS1 => ?_)
  rw [nI_clamp (Nat.lt_trans hj (by decide))] at hP1 hD1
  exact go H1 locs1 ⟨hK, hP1, hD1, hS1⟩
end GR
end
section
/-! what the methods compute, in plain words over arrays Nat → Int32 -/
def mg_rs (n : Nat) (f g : AR) : AR := fun j => if j < n then g j else f j
theorem mg_rs_0 (f g : AR) : mg_rs 0 f g = f := funext fun j => if_neg (Nat.not_lt_zero j)
theorem mg_rs_in {n j : Nat} {f g : AR} (h : j < n) : mg_rs n f g j = g j := if_pos h
theorem mg_rs_out {n j : Nat} {f g : AR} (h : n ≤ j) : mg_rs n f g j = f j := if_neg (Nat.not_lt.mpr h)
theorem mg_rs_s (i : Nat) (f g : AR) {v : Int32} (hv : v = g i) : upd (mg_rs i f g) i v = mg_rs (i + 1) f g := by
  funext j
  unfold upd mg_rs
  by_cases h : j = i
  · subst h; rw [if_pos rfl, if_pos (by omega)]; exact hv
  · rw [if_neg h]
    by_cases h2 : j < i
    · rw [if_pos h2, if_pos (by omega)]
    · rw [if_neg h2, if_neg (by omega)]
def mg_sh (lo n : Nat) (f : AR) : AR := fun j => if lo ≤ j ∧ j < n then f (j + 1) else f j
theorem mg_sh_0 (lo : Nat) (f : AR) : mg_sh lo lo f = f := funext fun j => if_neg (by omega)
theorem mg_sh_s {lo i : Nat} (f : AR) (h : lo ≤ i) : upd (mg_sh lo i f) i (mg_sh lo i f (i + 1)) = mg_sh lo (i + 1) f := by
  funext j
  unfold upd mg_sh
  by_cases h1 : j = i
  · subst h1; rw [if_pos rfl, if_neg (show ¬ (lo ≤ j + 1 ∧ j + 1 < j) by omega), if_pos (show lo ≤ j ∧ j < j + 1 by omega)]
  · rw [if_neg h1]
    by_cases h2 : lo ≤ j ∧ j < i
    · rw [if_pos h2, if_pos (by omega)]
    · rw [if_neg h2, if_neg (by omega)]
abbrev mg_in (v : Int32) : Prop := ¬ v < -50 ∧ ¬ 50 < v
/-- the model's distance -/
def mg_far (ax ay mx my mc : AR) (p g : Nat) : Int64 := (ax p * mc g - mx g).toInt64 * (ax p * mc g - mx g).toInt64 + (ay p * mc g - my g).toInt64 * (ay p * mc g - my g).toInt64
abbrev mg_nP (ax ay mx my mc : AR) (p g h : Nat) : Prop := mg_far ax ay mx my mc p g * (mc h).toInt64 * (mc h).toInt64 < mg_far ax ay mx my mc p h * (mc g).toInt64 * (mc g).toInt64
/-- the nearest of the groups 0 .. g -/
def mg_nr (ax ay mx my mc : AR) (p : Nat) : Nat → Nat
  | 0 => 0
  | g + 1 => if mg_nP ax ay mx my mc p (g + 1) (mg_nr ax ay mx my mc p g) then g + 1 else mg_nr ax ay mx my mc p g
theorem mg_nr_le (ax ay mx my mc : AR) (p : Nat) : ∀ g, mg_nr ax ay mx my mc p g ≤ g
  | 0 => Nat.le_refl 0
  | g + 1 => by
    have := mg_nr_le ax ay mx my mc p g
    unfold mg_nr
    split <;> omega
def mg_sz (G : AR) (v : Int32) : Nat → Int32
  | 0 => 0
  | i + 1 => if ¬ v < 0 ∧ G i = v then mg_sz G v i + 1 else mg_sz G v i
def mg_sv (ax ay : AR) (w : Int32) (i : Nat) : Int32 := if w = 0 then ax i else if w = 1 then ay i else if w = 2 then ax i * ax i + ay i * ay i else 0
def mg_sm (ax ay G : AR) (v w : Int32) : Nat → Int32
  | 0 => 0
  | i + 1 => if ¬ v < 0 ∧ G i = v then mg_sm ax ay G v w i + mg_sv ax ay w i else mg_sm ax ay G v w i
/-- how many points change their group -/
def mg_ch (ax ay mx my mc mb : AR) (k : Nat) : Nat → Nat
  | 0 => 0
  | i + 1 => if nI (mg_nr ax ay mx my mc i (k - 1)) = mb i then mg_ch ax ay mx my mc mb k i else mg_ch ax ay mx my mc mb k i + 1
theorem mg_ch_le (ax ay mx my mc mb : AR) (k : Nat) : ∀ i, mg_ch ax ay mx my mc mb k i ≤ i
  | 0 => Nat.le_refl 0
  | i + 1 => by
    have := mg_ch_le ax ay mx my mc mb k i
    unfold mg_ch
    split <;> omega
def mg_nF (ax ay mx my mc : AR) (k : Nat) : AR := fun p => nI (mg_nr ax ay mx my mc p (k - 1))
def mg_mv (i : Nat) (G : AR) (n : Nat) (f old : AR) : AR := fun g => if g < i ∧ 0 < mg_sz G (nI g) n then f g else old g
theorem mg_mv_0 (G : AR) (n : Nat) (f old : AR) : mg_mv 0 G n f old = old := funext fun j => if_neg (by omega)
theorem mg_mv_at {i n : Nat} {G f old : AR} : mg_mv i G n f old i = old i := if_neg (by omega)
theorem mg_mv_y {i n : Nat} {G f old : AR} {v : Int32} (h : 0 < mg_sz G (nI i) n) (hv : v = f i) : upd (mg_mv i G n f old) i v = mg_mv (i + 1) G n f old := by
  funext j
  unfold upd mg_mv
  by_cases h1 : j = i
  · subst h1; rw [if_pos rfl, if_pos ⟨by omega, h⟩]; exact hv
  · rw [if_neg h1]
    by_cases h2 : j < i ∧ 0 < mg_sz G (nI j) n
    · rw [if_pos h2, if_pos ⟨by omega, h2.2⟩]
    · rw [if_neg h2, if_neg (fun q => h2 ⟨by omega, q.2⟩)]
theorem mg_mv_n {i n : Nat} {G f old : AR} (h : ¬ 0 < mg_sz G (nI i) n) : mg_mv i G n f old = mg_mv (i + 1) G n f old := by
  funext j
  unfold mg_mv
  by_cases h1 : j = i
  · subst h1; rw [if_neg (by omega), if_neg (fun q => h q.2)]
  · by_cases h2 : j < i ∧ 0 < mg_sz G (nI j) n
    · rw [if_pos h2, if_pos ⟨by omega, h2.2⟩]
    · rw [if_neg h2, if_neg (fun q => h2 ⟨by omega, q.2⟩)]
abbrev mg_St : Type := AR × AR × AR × AR
def mg_G (ax ay : AR) (k n : Nat) (t : mg_St) : AR := mg_rs n t.1 (mg_nF ax ay t.2.1 t.2.2.1 t.2.2.2 k)
def mg_rS (ax ay : AR) (k n : Nat) (t : mg_St) : mg_St := (mg_G ax ay k n t, mg_mv k (mg_G ax ay k n t) n (fun g => mg_sm ax ay (mg_G ax ay k n t) (nI g) 0 n) t.2.1, mg_mv k (mg_G ax ay k n t) n (fun g => mg_sm ax ay (mg_G ax ay k n t) (nI g) 1 n) t.2.2.1, mg_mv k (mg_G ax ay k n t) n (fun g => mg_sz (mg_G ax ay k n t) (nI g) n) t.2.2.2)
def mg_rR (ax ay : AR) (k n : Nat) (t : mg_St) : Nat := mg_ch ax ay t.2.1 t.2.2.1 t.2.2.2 t.1 k n
/-- at most f further rounds, i have been made -/
def mg_st (ax ay : AR) (k n : Nat) : Nat → Nat → mg_St → Nat × mg_St
  | 0, i, t => (i, t)
  | f + 1, i, t => if mg_rR ax ay k n t = 0 then (i + 1, mg_rS ax ay k n t) else mg_st ax ay k n f (i + 1) (mg_rS ax ay k n t)
def mg_nc (ax ay mx my mc : AR) (k g : Nat) : Nat → Nat
  | 0 => 0
  | i + 1 => if mg_nP ax ay mx my mc i (mg_nr ax ay mx my mc i (k - 1)) g then mg_nc ax ay mx my mc k g i else mg_nc ax ay mx my mc k g i + 1
/-- the component's distance: a number over a square -/
def mg_up (ax ay mx my mc : AR) (p g : Nat) : Int64 := ((mc g).toInt64 * (ax p).toInt64 - (mx g).toInt64) * ((mc g).toInt64 * (ax p).toInt64 - (mx g).toInt64) + ((mc g).toInt64 * (ay p).toInt64 - (my g).toInt64) * ((mc g).toInt64 * (ay p).toInt64 - (my g).toInt64)
def mg_lo (mc : AR) (g : Nat) : Int64 := (mc g).toInt64 * (mc g).toInt64
/-- of two middles -/
def mg_uM (mx my mc : AR) (g h : Nat) : Int64 := ((mx g).toInt64 * (mc h).toInt64 - (mx h).toInt64 * (mc g).toInt64) * ((mx g).toInt64 * (mc h).toInt64 - (mx h).toInt64 * (mc g).toInt64) + ((my g).toInt64 * (mc h).toInt64 - (my h).toInt64 * (mc g).toInt64) * ((my g).toInt64 * (mc h).toInt64 - (my h).toInt64 * (mc g).toInt64)
def mg_lM (mc : AR) (g h : Nat) : Int64 := ((mc g).toInt64 * (mc h).toInt64) * ((mc g).toInt64 * (mc h).toInt64)
abbrev mg_fB (mx my mc : AR) (b g : Nat) (u v : Int64) : Prop := 4 * u * mg_lM mc b g < mg_uM mx my mc b g * v
def mg_kf (v : Int32) : Int32 := if 1 ≤ v then (if v ≤ 4 then v else 4) else 1
abbrev mg_o1 : AR := fun _ => nI 1
abbrev mg_om : AR := fun _ => -1
end
section
/-! the model and the component: what both do alike -/
abbrev mg_R (f n : Nat) : Room := { frames := f, cells := 0, slots := 0, locals := n }
theorem mg_in_le {v : Int32} (h : v ≤ 50) : ¬ 50 < v := Int32.not_lt.mpr h
section GM
variable {p : Program} {l : Launch} {e : Env} {R : Room} {s : State} {m : MethodId} {args : Array Value} {below : List Frame} {meth : Method} {c : Code} {H : Heap} {locs : List Loc} {cells slots : Nat} {Q : State → Prop}
variable {cc : ByteArray} {ret : Option FieldType} {nL : Nat} {own : String} {A : Nat → Prop} {D : va_G} {pc : Nat} {ls : Array Slot} {rest : List Value}

set_option maxHeartbeats 4000000 in
set_option maxRecDepth 100000 in
/-- bad(c) -/
theorem kM_bad (l : Launch) (D : va_G) (cI cZ : ClassId) (sz : Nat) (v : Int32)  : Met l yX1_bad (ws_ yX1_bad cX1_bad 1 (some .boolean)) (mg_R 0 0) (va_Pc [.int v] (mg_pre D (mg_ty cI cZ) ([]) sz)) (va_Qi (fun (r : Int32) (u : Unit) => r = if mg_in v then 0 else 1) (mg_bk D (mg_ty cI cZ) (fun (u : Unit) => []) (va_A ([]) sz)) (va_A ([]) sz)) 0 0 (va_A ([]) sz) := by
  refine mg_meti (by decide) (Nat.le_of_ble_eq_true rfl) ?_
  intro p e s m below meth c A ls C hin G hl
  have C : mg_cx p s m _ meth c cX1_bad (some .boolean) 1 RX1 A := C
  obtain ⟨hx, hb, hr, hml, hown, hts, hlk, hA⟩ := id C
  have hl : lv_has ls 1 [(0, _)] := hl
  refine lv_iload_n hx hb dX1_bad_0 rfl (lv_at hl 0 rfl) ?_
  refine lv_bipush (v := (-50)) hx hb dX1_bad_1 (by decide) ?_
  refine lv_icmp_lt (tgt := 12) hx hb dX1_bad_3 (by decide) (fun h1 => ?_) (fun h1 => ?_)
  · refine lv_iconst (v := (1)) hx hb dX1_bad_12 (by decide) ?_
    refine lv_goto (tgt := 17) hx hb dX1_bad_13 (by decide) ?_
    exact mg_zret C () G rfl (if_neg (fun q => q.1 h1)).symm dX1_bad_17
  · refine lv_iload_n hx hb dX1_bad_6 rfl (lv_at hl 0 rfl) ?_
    refine lv_bipush (v := (50)) hx hb dX1_bad_7 (by decide) ?_
    refine lv_icmp_le (tgt := 16) hx hb dX1_bad_9 (by decide) (fun h2 => ?_) (fun h2 => ?_)
    · refine lv_iconst (v := (0)) hx hb dX1_bad_16 (by decide) ?_
      exact mg_zret C () G rfl (if_pos ⟨h1, Int32.not_lt.mpr h2⟩).symm dX1_bad_17
    · refine lv_iconst (v := (1)) hx hb dX1_bad_12 (by decide) ?_
      refine lv_goto (tgt := 17) hx hb dX1_bad_13 (by decide) ?_
      exact mg_zret C () G rfl (if_neg (fun q => h2 (Int32.not_lt.mp q.2))).symm dX1_bad_17
theorem iM_bad {cI cZ : ClassId} {ws : va_W} {v : Int32} (C : mg_cx p s m args meth c cc ret nL RX1 A) (G : mg_wd D (mg_ty cI cZ) A s (ws) H locs)  (hR : 0 + 1 ≤ R.frames ∧ 8 + (1 + 11) + 0 ≤ R.locals) (hf : cells ≤ R.cells ∧ slots ≤ R.slots) (hsz : ls.size = nL) (hrm : (rest.map fun v => v.category).sum ≤ 8) (hdg : decode cc pc = .ok (.invokestatic 41, 3))
    (go : ∀ (r : Int32) (H1 : Heap) (locs1 : List Loc), (r = if mg_in v then 0 else 1) → mg_wd D (mg_ty cI cZ) A s (ws) H1 locs1 → W p l e R s m args below meth c H1 locs1 cells slots Q (F0 m (pc + 3) ls (.int r :: rest))) : W p l e R s m args below meth c H locs cells slots Q (F0 m pc ls (.int v :: rest)) := by
  have hts := C.2.2.2.2.2.1
  have G0 : mg_wd D (mg_ty cI cZ) A s [] H locs := mg_cut1 (w := []) (w2 := ws) G
  exact mg_ci (mg_runS C G0 (kM_bad l D cI cZ H.size v ) (va_cwS 1 hts (lw_S q190 q191 q11 q192) rfl rfl rfl (by decide +kernel) hR) rfl hsz rfl hrm hdg hf) G.2.2.2 (mg_free C G0) (fun r u H1 locs1 hp B => go r H1 locs1 hp (mg_left (w := []) (w1 := []) C G B))
set_option maxHeartbeats 4000000 in
set_option maxRecDepth 100000 in
/-- inRange(c) -/
theorem kX_inRange (l : Launch) (D : va_G) (cI cZ : ClassId) (sz : Nat) (v : Int32)  : Met l yX0_inRange (ws_ yX0_inRange cX0_inRange 1 (some .boolean)) (mg_R 0 0) (va_Pc [.int v] (mg_pre D (mg_ty cI cZ) ([]) sz)) (va_Qi (fun (r : Int32) (u : Unit) => r = if mg_in v then 1 else 0) (mg_bk D (mg_ty cI cZ) (fun (u : Unit) => []) (va_A ([]) sz)) (va_A ([]) sz)) 0 0 (va_A ([]) sz) := by
  refine mg_meti (by decide) (Nat.le_of_ble_eq_true rfl) ?_
  intro p e s m below meth c A ls C hin G hl
  have C : mg_cx p s m _ meth c cX0_inRange (some .boolean) 1 RX0 A := C
  obtain ⟨hx, hb, hr, hml, hown, hts, hlk, hA⟩ := id C
  have hl : lv_has ls 1 [(0, _)] := hl
  refine lv_iload_n hx hb dX0_inRange_0 rfl (lv_at hl 0 rfl) ?_
  refine lv_bipush (v := (-50)) hx hb dX0_inRange_1 (by decide) ?_
  refine lv_icmp_lt (tgt := 16) hx hb dX0_inRange_3 (by decide) (fun h1 => ?_) (fun h1 => ?_)
  · refine lv_iconst (v := (0)) hx hb dX0_inRange_16 (by decide) ?_
    exact mg_zret C () G rfl (if_neg (fun q => q.1 h1)).symm dX0_inRange_17
  · refine lv_iload_n hx hb dX0_inRange_6 rfl (lv_at hl 0 rfl) ?_
    refine lv_bipush (v := (50)) hx hb dX0_inRange_7 (by decide) ?_
    refine lv_icmp_gt (tgt := 16) hx hb dX0_inRange_9 (by decide) (fun h2 => ?_) (fun h2 => ?_)
    · refine lv_iconst (v := (0)) hx hb dX0_inRange_16 (by decide) ?_
      exact mg_zret C () G rfl (if_neg (fun q => q.2 h2)).symm dX0_inRange_17
    · refine lv_iconst (v := (1)) hx hb dX0_inRange_12 (by decide) ?_
      refine lv_goto (tgt := 17) hx hb dX0_inRange_13 (by decide) ?_
      exact mg_zret C () G rfl (if_pos ⟨h1, h2⟩).symm dX0_inRange_17
theorem iX_inRange {cI cZ : ClassId} {ws : va_W} {v : Int32} (C : mg_cx p s m args meth c cc ret nL RX0 A) (G : mg_wd D (mg_ty cI cZ) A s (ws) H locs)  (hR : 0 + 1 ≤ R.frames ∧ 8 + (1 + 11) + 0 ≤ R.locals) (hf : cells ≤ R.cells ∧ slots ≤ R.slots) (hsz : ls.size = nL) (hrm : (rest.map fun v => v.category).sum ≤ 8) (hdg : decode cc pc = .ok (.invokestatic 54, 3))
    (go : ∀ (r : Int32) (H1 : Heap) (locs1 : List Loc), (r = if mg_in v then 1 else 0) → mg_wd D (mg_ty cI cZ) A s (ws) H1 locs1 → W p l e R s m args below meth c H1 locs1 cells slots Q (F0 m (pc + 3) ls (.int r :: rest))) : W p l e R s m args below meth c H locs cells slots Q (F0 m pc ls (.int v :: rest)) := by
  have hts := C.2.2.2.2.2.1
  have G0 : mg_wd D (mg_ty cI cZ) A s [] H locs := mg_cut1 (w := []) (w2 := ws) G
  exact mg_ci (mg_runS C G0 (kX_inRange l D cI cZ H.size v ) (va_cwS 1 hts (lw_S q79 q80 q10 q81) rfl rfl rfl (by decide +kernel) hR) rfl hsz rfl hrm hdg hf) G.2.2.2 (mg_free C G0) (fun r u H1 locs1 hp B => go r H1 locs1 hp (mg_left (w := []) (w1 := []) C G B))
set_option maxHeartbeats 4000000 in
set_option maxRecDepth 100000 in
/-- reset, a loop -/
theorem lX_reset2 {a : Nat → Nat} {cI cZ : ClassId} {pt kk : Int32} {ax ay sx sy mx my mc mv mb qx qy qc : AR} {up lo : Int64}  (C : mg_cx p s m args meth c cX0_reset ret 2 RX0 A) 
    (go : ∀ (H : Heap) (locs : List Loc) (ls : Array Slot), mg_wd D (mg_ty cI cZ) A s (wX a cI cZ pt kk ax ay sx sy mx my mc mv (mg_rs 24 mb mg_om) qx qy qc up lo) H locs → lv_has ls 2 [(0, .ref (a 0))] → W p l e R s m args below meth c H locs cells slots Q (F0 m 72 ls [])) :
    ∀ (n i : Nat) , i ≤ 24 → 24 < i + n → ∀ (H : Heap) (locs : List Loc) (ls : Array Slot), mg_wd D (mg_ty cI cZ) A s (wX a cI cZ pt kk ax ay sx sy mx my mc mv (mg_rs i mb mg_om) qx qy qc up lo) H locs → lv_has ls 2 [(1, .int (nI i)), (0, .ref (a 0))] → W p l e R s m args below meth c H locs cells slots Q (F0 m 53 ls []) := by
  obtain ⟨hx, hb, hr, hml, hown, hts, hlk, hA⟩ := id C
  intro n
  induction n with
  | zero => intro i h1 h2; exact absurd h2 (by omega)
  | succ n ih =>
    intro i hi hin  H locs ls G hl
    refine lv_iload_n hx hb dX0_reset_53 rfl (lv_at hl 0 rfl) ?_
    refine lv_bipush (v := (nI 24)) hx hb dX0_reset_54 (by decide) ?_
    refine mg_ige (tgt := 72) hx hb (by omega) (by omega) dX0_reset_56 (by decide) (fun h => ?_) (fun h => ?_)
    · obtain rfl : i = 24 := by omega
      exact go H locs ls G (lv_sub hl [1] rfl)
    · refine lv_aload_n hx hb dX0_reset_59 rfl (lv_at hl 1 rfl) ?_
      refine gX_mb C G dX0_reset_60 ?_
      refine lv_iload_n hx hb dX0_reset_63 rfl (lv_at hl 0 rfl) ?_
      refine lv_iconst (v := (-1)) hx hb dX0_reset_64 (by decide) ?_
      refine sX_mb C G (by omega) dX0_reset_65 (fun H locs G => ?_)
      refine lv_iinc (lv' := [(1, _), (0, _)]) hx hb dX0_reset_66 hl (k := 0) rfl (mg_inc _) (by decide) rfl (fun ls hl => ?_)
      refine lv_goto (tgt := 53) hx hb dX0_reset_69 (by decide) ?_
      rw [mg_rs_s i mb mg_om rfl] at G
      exact ih (i + 1) (by omega) (by omega) H locs ls G hl
set_option maxHeartbeats 4000000 in
set_option maxRecDepth 100000 in
/-- reset, a loop -/
theorem lX_reset1 {a : Nat → Nat} {cI cZ : ClassId} {pt kk : Int32} {ax ay sx sy mx my mc mv mb qx qy qc : AR} {up lo : Int64}  (C : mg_cx p s m args meth c cX0_reset ret 2 RX0 A) 
    (go : ∀ (H : Heap) (locs : List Loc) (ls : Array Slot), mg_wd D (mg_ty cI cZ) A s (wX a cI cZ pt kk ax ay sx sy (mg_rs 4 mx sx) (mg_rs 4 my sy) (mg_rs 4 mc mg_o1) (mg_rs 4 mv mg_o1) mb qx qy qc up lo) H locs → lv_has ls 2 [(0, .ref (a 0))] → W p l e R s m args below meth c H locs cells slots Q (F0 m 51 ls [])) :
    ∀ (n i : Nat) , i ≤ 4 → 4 < i + n → ∀ (H : Heap) (locs : List Loc) (ls : Array Slot), mg_wd D (mg_ty cI cZ) A s (wX a cI cZ pt kk ax ay sx sy (mg_rs i mx sx) (mg_rs i my sy) (mg_rs i mc mg_o1) (mg_rs i mv mg_o1) mb qx qy qc up lo) H locs → lv_has ls 2 [(1, .int (nI i)), (0, .ref (a 0))] → W p l e R s m args below meth c H locs cells slots Q (F0 m 2 ls []) := by
  obtain ⟨hx, hb, hr, hml, hown, hts, hlk, hA⟩ := id C
  intro n
  induction n with
  | zero => intro i h1 h2; exact absurd h2 (by omega)
  | succ n ih =>
    intro i hi hin  H locs ls G hl
    refine lv_iload_n hx hb dX0_reset_2 rfl (lv_at hl 0 rfl) ?_
    refine lv_iconst (v := (nI 4)) hx hb dX0_reset_3 (by decide) ?_
    refine mg_ige (tgt := 51) hx hb (by omega) (by omega) dX0_reset_4 (by decide) (fun h => ?_) (fun h => ?_)
    · obtain rfl : i = 4 := by omega
      exact go H locs ls G (lv_sub hl [1] rfl)
    · refine lv_aload_n hx hb dX0_reset_7 rfl (lv_at hl 1 rfl) ?_
      refine gX_mx C G dX0_reset_8 ?_
      refine lv_iload_n hx hb dX0_reset_11 rfl (lv_at hl 0 rfl) ?_
      refine lv_aload_n hx hb dX0_reset_12 rfl (lv_at hl 1 rfl) ?_
      refine gX_sx C G dX0_reset_13 ?_
      refine lv_iload_n hx hb dX0_reset_16 rfl (lv_at hl 0 rfl) ?_
      refine lX_sx C G (by omega) dX0_reset_17 ?_
      refine sX_mx C G (by omega) dX0_reset_18 (fun H locs G => ?_)
      refine lv_aload_n hx hb dX0_reset_19 rfl (lv_at hl 1 rfl) ?_
      refine gX_my C G dX0_reset_20 ?_
      refine lv_iload_n hx hb dX0_reset_23 rfl (lv_at hl 0 rfl) ?_
      refine lv_aload_n hx hb dX0_reset_24 rfl (lv_at hl 1 rfl) ?_
      refine gX_sy C G dX0_reset_25 ?_
      refine lv_iload_n hx hb dX0_reset_28 rfl (lv_at hl 0 rfl) ?_
      refine lX_sy C G (by omega) dX0_reset_29 ?_
      refine sX_my C G (by omega) dX0_reset_30 (fun H locs G => ?_)
      refine lv_aload_n hx hb dX0_reset_31 rfl (lv_at hl 1 rfl) ?_
      refine gX_mc C G dX0_reset_32 ?_
      refine lv_iload_n hx hb dX0_reset_35 rfl (lv_at hl 0 rfl) ?_
      refine lv_iconst (v := (nI 1)) hx hb dX0_reset_36 (by decide) ?_
      refine sX_mc C G (by omega) dX0_reset_37 (fun H locs G => ?_)
      refine lv_aload_n hx hb dX0_reset_38 rfl (lv_at hl 1 rfl) ?_
      refine gX_mv C G dX0_reset_39 ?_
      refine lv_iload_n hx hb dX0_reset_42 rfl (lv_at hl 0 rfl) ?_
      refine lv_iconst (v := (nI 1)) hx hb dX0_reset_43 (by decide) ?_
      refine sX_mv C G (by omega) dX0_reset_44 (fun H locs G => ?_)
      refine lv_iinc (lv' := [(1, _), (0, _)]) hx hb dX0_reset_45 hl (k := 0) rfl (mg_inc _) (by decide) rfl (fun ls hl => ?_)
      refine lv_goto (tgt := 2) hx hb dX0_reset_48 (by decide) ?_
      rw [mg_rs_s i mx sx rfl, mg_rs_s i my sy rfl, mg_rs_s i mc mg_o1 rfl, mg_rs_s i mv mg_o1 (v := vp_nar .boolean (nI 1)) rfl] at G
      exact ih (i + 1) (by omega) (by omega) H locs ls G hl
set_option maxHeartbeats 4000000 in
set_option maxRecDepth 100000 in
/-- reset() -/
theorem kX_reset (l : Launch) (D : va_G) (a : Nat → Nat) (cI cZ : ClassId) (pt kk : Int32) (ax ay sx sy mx my mc mv mb qx qy qc : AR) (up lo : Int64) (sz : Nat)   : Met l yX0_reset (ws_ yX0_reset cX0_reset 2 none) (mg_R 0 0) (va_Pc [.ref (a 0)] (mg_pre D (mg_ty cI cZ) (wX a cI cZ pt kk ax ay sx sy mx my mc mv mb qx qy qc up lo) sz)) (va_Qv (fun (u : Unit) => True) (mg_bk D (mg_ty cI cZ) (fun (u : Unit) => wX a cI cZ pt kk ax ay sx sy (mg_rs 4 mx sx) (mg_rs 4 my sy) (mg_rs 4 mc mg_o1) (mg_rs 4 mv mg_o1) (mg_rs 24 mb mg_om) qx qy qc up lo) (va_A (wX a cI cZ pt kk ax ay sx sy mx my mc mv mb qx qy qc up lo) sz)) (va_A (wX a cI cZ pt kk ax ay sx sy mx my mc mv mb qx qy qc up lo) sz)) 0 0 (va_A (wX a cI cZ pt kk ax ay sx sy mx my mc mv mb qx qy qc up lo) sz) := by
  refine mg_metv (by decide) (Nat.le_of_ble_eq_true rfl) ?_
  intro p e s m below meth c A ls C hin G hl
  have C : mg_cx p s m _ meth c cX0_reset none 2 RX0 A := C
  obtain ⟨hx, hb, hr, hml, hown, hts, hlk, hA⟩ := id C
  have hl : lv_has ls 2 [(0, _)] := hl
  refine lv_iconst (v := (nI 0)) hx hb dX0_reset_0 (by decide) ?_
  refine lv_istore_n (lv' := [(1, _), (0, _)]) hx hb dX0_reset_1 rfl hl (by decide) rfl (fun ls hl => ?_)
  have G : mg_wd D (mg_ty cI cZ) A s (wX a cI cZ pt kk ax ay sx sy (mg_rs 0 mx sx) (mg_rs 0 my sy) (mg_rs 0 mc mg_o1) (mg_rs 0 mv mg_o1) mb qx qy qc up lo) s.heap [] := by simp only [mg_rs_0]; exact G
  refine lX_reset1 C (fun H locs ls G hl => ?_) 5 0 (by omega) (by omega) _ _ ls G hl
  refine lv_iconst (v := (nI 0)) hx hb dX0_reset_51 (by decide) ?_
  refine lv_istore_n (lv' := [(1, _), (0, _)]) hx hb dX0_reset_52 rfl hl (by decide) rfl (fun ls hl => ?_)
  have G : mg_wd D (mg_ty cI cZ) A s (wX a cI cZ pt kk ax ay sx sy (mg_rs 4 mx sx) (mg_rs 4 my sy) (mg_rs 4 mc mg_o1) (mg_rs 4 mv mg_o1) (mg_rs 0 mb mg_om) qx qy qc up lo) H locs := by rw [mg_rs_0]; exact G
  refine lX_reset2 C (fun H locs ls G hl => ?_) 25 0 (by omega) (by omega) _ _ ls G hl
  exact mg_vret C () G trivial dX0_reset_72
theorem iX_reset {a : Nat → Nat} {cI cZ : ClassId} {pt kk : Int32} {ax ay sx sy mx my mc mv mb qx qy qc : AR} {up lo : Int64}  (C : mg_cx p s m args meth c cc ret nL RX0 A) (G : mg_wd D (mg_ty cI cZ) A s (wX a cI cZ pt kk ax ay sx sy mx my mc mv mb qx qy qc up lo) H locs)  (hR : 0 + 1 ≤ R.frames ∧ 8 + (2 + 11) + 0 ≤ R.locals) (hf : cells ≤ R.cells ∧ slots ≤ R.slots) (hsz : ls.size = nL) (hrm : (rest.map fun v => v.category).sum ≤ 8) (hdg : decode cc pc = .ok (.invokevirtual 51, 3))
    (go : ∀ (H1 : Heap) (locs1 : List Loc), mg_wd D (mg_ty cI cZ) A s (wX a cI cZ pt kk ax ay sx sy (mg_rs 4 mx sx) (mg_rs 4 my sy) (mg_rs 4 mc mg_o1) (mg_rs 4 mv mg_o1) (mg_rs 24 mb mg_om) qx qy qc up lo) H1 locs1 → W p l e R s m args below meth c H1 locs1 cells slots Q (F0 m (pc + 3) ls (rest))) : W p l e R s m args below meth c H locs cells slots Q (F0 m pc ls (.ref (a 0) :: rest)) := by
  have hts := C.2.2.2.2.2.1
  exact mg_cv (mg_runV C G (kX_reset l D a cI cZ pt kk ax ay sx sy mx my mc mv mb qx qy qc up lo H.size  ) (cwV 0 hts (lw_V q20 q21 q22 q10 q23) rfl rfl rfl (by decide +kernel) hR) (ci := 0) rfl rfl rfl rfl hsz rfl hrm hdg hf) G.2.2.2 (mg_free C G) (fun u H1 locs1 hp B => go H1 locs1 (mg_whole C G B))
set_option maxHeartbeats 4000000 in
set_option maxRecDepth 100000 in
/-- reset, a loop -/
theorem lM_reset2 {b : Nat → Nat} {cI cZ : ClassId} {pt kk : Int32} {ax ay mb sx sy mx my mc : AR}  (C : mg_cx p s m args meth c cX1_reset ret 2 RX1 A) 
    (go : ∀ (H : Heap) (locs : List Loc) (ls : Array Slot), mg_wd D (mg_ty cI cZ) A s (wM b cI pt kk ax ay (mg_rs 24 mb mg_om) sx sy mx my mc) H locs → lv_has ls 2 [(0, .ref (b 0))] → W p l e R s m args below meth c H locs cells slots Q (F0 m 65 ls [])) :
    ∀ (n i : Nat) , i ≤ 24 → 24 < i + n → ∀ (H : Heap) (locs : List Loc) (ls : Array Slot), mg_wd D (mg_ty cI cZ) A s (wM b cI pt kk ax ay (mg_rs i mb mg_om) sx sy mx my mc) H locs → lv_has ls 2 [(1, .int (nI i)), (0, .ref (b 0))] → W p l e R s m args below meth c H locs cells slots Q (F0 m 46 ls []) := by
  obtain ⟨hx, hb, hr, hml, hown, hts, hlk, hA⟩ := id C
  intro n
  induction n with
  | zero => intro i h1 h2; exact absurd h2 (by omega)
  | succ n ih =>
    intro i hi hin  H locs ls G hl
    refine lv_iload_n hx hb dX1_reset_46 rfl (lv_at hl 0 rfl) ?_
    refine lv_bipush (v := (nI 24)) hx hb dX1_reset_47 (by decide) ?_
    refine mg_ige (tgt := 65) hx hb (by omega) (by omega) dX1_reset_49 (by decide) (fun h => ?_) (fun h => ?_)
    · obtain rfl : i = 24 := by omega
      exact go H locs ls G (lv_sub hl [1] rfl)
    · refine lv_aload_n hx hb dX1_reset_52 rfl (lv_at hl 1 rfl) ?_
      refine gM_mb C G dX1_reset_53 ?_
      refine lv_iload_n hx hb dX1_reset_56 rfl (lv_at hl 0 rfl) ?_
      refine lv_iconst (v := (-1)) hx hb dX1_reset_57 (by decide) ?_
      refine sM_mb C G (by omega) dX1_reset_58 (fun H locs G => ?_)
      refine lv_iinc (lv' := [(1, _), (0, _)]) hx hb dX1_reset_59 hl (k := 0) rfl (mg_inc _) (by decide) rfl (fun ls hl => ?_)
      refine lv_goto (tgt := 46) hx hb dX1_reset_62 (by decide) ?_
      rw [mg_rs_s i mb mg_om rfl] at G
      exact ih (i + 1) (by omega) (by omega) H locs ls G hl
set_option maxHeartbeats 4000000 in
set_option maxRecDepth 100000 in
/-- reset, a loop -/
theorem lM_reset1 {b : Nat → Nat} {cI cZ : ClassId} {pt kk : Int32} {ax ay mb sx sy mx my mc : AR}  (C : mg_cx p s m args meth c cX1_reset ret 2 RX1 A) 
    (go : ∀ (H : Heap) (locs : List Loc) (ls : Array Slot), mg_wd D (mg_ty cI cZ) A s (wM b cI pt kk ax ay mb sx sy (mg_rs 4 mx sx) (mg_rs 4 my sy) (mg_rs 4 mc mg_o1)) H locs → lv_has ls 2 [(0, .ref (b 0))] → W p l e R s m args below meth c H locs cells slots Q (F0 m 44 ls [])) :
    ∀ (n i : Nat) , i ≤ 4 → 4 < i + n → ∀ (H : Heap) (locs : List Loc) (ls : Array Slot), mg_wd D (mg_ty cI cZ) A s (wM b cI pt kk ax ay mb sx sy (mg_rs i mx sx) (mg_rs i my sy) (mg_rs i mc mg_o1)) H locs → lv_has ls 2 [(1, .int (nI i)), (0, .ref (b 0))] → W p l e R s m args below meth c H locs cells slots Q (F0 m 2 ls []) := by
  obtain ⟨hx, hb, hr, hml, hown, hts, hlk, hA⟩ := id C
  intro n
  induction n with
  | zero => intro i h1 h2; exact absurd h2 (by omega)
  | succ n ih =>
    intro i hi hin  H locs ls G hl
    refine lv_iload_n hx hb dX1_reset_2 rfl (lv_at hl 0 rfl) ?_
    refine lv_iconst (v := (nI 4)) hx hb dX1_reset_3 (by decide) ?_
    refine mg_ige (tgt := 44) hx hb (by omega) (by omega) dX1_reset_4 (by decide) (fun h => ?_) (fun h => ?_)
    · obtain rfl : i = 4 := by omega
      exact go H locs ls G (lv_sub hl [1] rfl)
    · refine lv_aload_n hx hb dX1_reset_7 rfl (lv_at hl 1 rfl) ?_
      refine gM_mx C G dX1_reset_8 ?_
      refine lv_iload_n hx hb dX1_reset_11 rfl (lv_at hl 0 rfl) ?_
      refine lv_aload_n hx hb dX1_reset_12 rfl (lv_at hl 1 rfl) ?_
      refine gM_sx C G dX1_reset_13 ?_
      refine lv_iload_n hx hb dX1_reset_16 rfl (lv_at hl 0 rfl) ?_
      refine lM_sx C G (by omega) dX1_reset_17 ?_
      refine sM_mx C G (by omega) dX1_reset_18 (fun H locs G => ?_)
      refine lv_aload_n hx hb dX1_reset_19 rfl (lv_at hl 1 rfl) ?_
      refine gM_my C G dX1_reset_20 ?_
      refine lv_iload_n hx hb dX1_reset_23 rfl (lv_at hl 0 rfl) ?_
      refine lv_aload_n hx hb dX1_reset_24 rfl (lv_at hl 1 rfl) ?_
      refine gM_sy C G dX1_reset_25 ?_
      refine lv_iload_n hx hb dX1_reset_28 rfl (lv_at hl 0 rfl) ?_
      refine lM_sy C G (by omega) dX1_reset_29 ?_
      refine sM_my C G (by omega) dX1_reset_30 (fun H locs G => ?_)
      refine lv_aload_n hx hb dX1_reset_31 rfl (lv_at hl 1 rfl) ?_
      refine gM_mc C G dX1_reset_32 ?_
      refine lv_iload_n hx hb dX1_reset_35 rfl (lv_at hl 0 rfl) ?_
      refine lv_iconst (v := (nI 1)) hx hb dX1_reset_36 (by decide) ?_
      refine sM_mc C G (by omega) dX1_reset_37 (fun H locs G => ?_)
      refine lv_iinc (lv' := [(1, _), (0, _)]) hx hb dX1_reset_38 hl (k := 0) rfl (mg_inc _) (by decide) rfl (fun ls hl => ?_)
      refine lv_goto (tgt := 2) hx hb dX1_reset_41 (by decide) ?_
      rw [mg_rs_s i mx sx rfl, mg_rs_s i my sy rfl, mg_rs_s i mc mg_o1 rfl] at G
      exact ih (i + 1) (by omega) (by omega) H locs ls G hl
set_option maxHeartbeats 4000000 in
set_option maxRecDepth 100000 in
/-- reset() -/
theorem kM_reset (l : Launch) (D : va_G) (b : Nat → Nat) (cI cZ : ClassId) (pt kk : Int32) (ax ay mb sx sy mx my mc : AR) (sz : Nat)   : Met l yX1_reset (ws_ yX1_reset cX1_reset 2 none) (mg_R 0 0) (va_Pc [.ref (b 0)] (mg_pre D (mg_ty cI cZ) (wM b cI pt kk ax ay mb sx sy mx my mc) sz)) (va_Qv (fun (u : Unit) => True) (mg_bk D (mg_ty cI cZ) (fun (u : Unit) => wM b cI pt kk ax ay (mg_rs 24 mb mg_om) sx sy (mg_rs 4 mx sx) (mg_rs 4 my sy) (mg_rs 4 mc mg_o1)) (va_A (wM b cI pt kk ax ay mb sx sy mx my mc) sz)) (va_A (wM b cI pt kk ax ay mb sx sy mx my mc) sz)) 0 0 (va_A (wM b cI pt kk ax ay mb sx sy mx my mc) sz) := by
  refine mg_metv (by decide) (Nat.le_of_ble_eq_true rfl) ?_
  intro p e s m below meth c A ls C hin G hl
  have C : mg_cx p s m _ meth c cX1_reset none 2 RX1 A := C
  obtain ⟨hx, hb, hr, hml, hown, hts, hlk, hA⟩ := id C
  have hl : lv_has ls 2 [(0, _)] := hl
  refine lv_iconst (v := (nI 0)) hx hb dX1_reset_0 (by decide) ?_
  refine lv_istore_n (lv' := [(1, _), (0, _)]) hx hb dX1_reset_1 rfl hl (by decide) rfl (fun ls hl => ?_)
  have G : mg_wd D (mg_ty cI cZ) A s (wM b cI pt kk ax ay mb sx sy (mg_rs 0 mx sx) (mg_rs 0 my sy) (mg_rs 0 mc mg_o1)) s.heap [] := by simp only [mg_rs_0]; exact G
  refine lM_reset1 C (fun H locs ls G hl => ?_) 5 0 (by omega) (by omega) _ _ ls G hl
  refine lv_iconst (v := (nI 0)) hx hb dX1_reset_44 (by decide) ?_
  refine lv_istore_n (lv' := [(1, _), (0, _)]) hx hb dX1_reset_45 rfl hl (by decide) rfl (fun ls hl => ?_)
  have G : mg_wd D (mg_ty cI cZ) A s (wM b cI pt kk ax ay (mg_rs 0 mb mg_om) sx sy (mg_rs 4 mx sx) (mg_rs 4 my sy) (mg_rs 4 mc mg_o1)) H locs := by rw [mg_rs_0]; exact G
  refine lM_reset2 C (fun H locs ls G hl => ?_) 25 0 (by omega) (by omega) _ _ ls G hl
  exact mg_vret C () G trivial dX1_reset_65
theorem iM_reset {b : Nat → Nat} {cI cZ : ClassId} {pt kk : Int32} {ax ay mb sx sy mx my mc : AR}  (C : mg_cx p s m args meth c cc ret nL RX1 A) (G : mg_wd D (mg_ty cI cZ) A s (wM b cI pt kk ax ay mb sx sy mx my mc) H locs)  (hR : 0 + 1 ≤ R.frames ∧ 8 + (2 + 11) + 0 ≤ R.locals) (hf : cells ≤ R.cells ∧ slots ≤ R.slots) (hsz : ls.size = nL) (hrm : (rest.map fun v => v.category).sum ≤ 8) (hdg : decode cc pc = .ok (.invokevirtual 38, 3))
    (go : ∀ (H1 : Heap) (locs1 : List Loc), mg_wd D (mg_ty cI cZ) A s (wM b cI pt kk ax ay (mg_rs 24 mb mg_om) sx sy (mg_rs 4 mx sx) (mg_rs 4 my sy) (mg_rs 4 mc mg_o1)) H1 locs1 → W p l e R s m args below meth c H1 locs1 cells slots Q (F0 m (pc + 3) ls (rest))) : W p l e R s m args below meth c H locs cells slots Q (F0 m pc ls (.ref (b 0) :: rest)) := by
  have hts := C.2.2.2.2.2.1
  exact mg_cv (mg_runV C G (kM_reset l D b cI cZ pt kk ax ay mb sx sy mx my mc H.size  ) (cwV 0 hts (lw_V q151 q152 q153 q11 q154) rfl rfl rfl (by decide +kernel) hR) (ci := 1) rfl rfl rfl rfl hsz rfl hrm hdg hf) G.2.2.2 (mg_free C G) (fun u H1 locs1 hp B => go H1 locs1 (mg_whole C G B))
end GM
end
section
/-! the model and the component: add, drop, seed, groups, group, size, sum -/
theorem mg_c0 {P : Prop} [Decidable P] {r : Int32} (hr : r = if P then 0 else 1) (c : ¬ r = 0) : ¬ P := by
  intro h; rw [if_pos h] at hr; exact c hr
theorem mg_c1 {P : Prop} [Decidable P] {r : Int32} (hr : r = if P then 0 else 1) (c : r = 0) : P := by
  by_cases h : P
  · exact h
  · rw [if_neg h] at hr; rw [hr] at c; exact absurd c (by decide)
section GB2
variable {p : Program} {l : Launch} {e : Env} {R : Room} {s : State} {m : MethodId} {args : Array Value} {below : List Frame} {meth : Method} {c : Code} {H : Heap} {locs : List Loc} {cells slots : Nat} {Q : State → Prop}
variable {cc : ByteArray} {ret : Option FieldType} {nL : Nat} {own : String} {A : Nat → Prop} {D : va_G} {pc : Nat} {ls : Array Slot} {rest : List Value}

set_option maxHeartbeats 4000000 in
set_option maxRecDepth 100000 in
/-- add(x, y) -/
theorem kX_add (l : Launch) (D : va_G) (a : Nat → Nat) (cI cZ : ClassId) (kk : Int32) (ax ay sx sy mx my mc mv mb qx qy qc : AR) (up lo : Int64) (sz : Nat) (n : Nat) (v w : Int32) (hn : n ≤ 24) : Met l yX0_add (ws_ yX0_add cX0_add 3 (some .int)) (mg_R 1 21) (va_Pc [.ref (a 0), .int v, .int w] (mg_pre D (mg_ty cI cZ) (wX a cI cZ (nI n) kk ax ay sx sy mx my mc mv mb qx qy qc up lo) sz)) (va_Qi (fun (r : Int32) (u : Bool) => (u = true ∧ (mg_in v ∧ mg_in w ∧ n < 24) ∧ r = nI (n + 1)) ∨ (u = false ∧ ¬ (mg_in v ∧ mg_in w ∧ n < 24) ∧ r = -1)) (mg_bk D (mg_ty cI cZ) (fun (u : Bool) => cond u (wX a cI cZ (nI (n + 1)) kk (upd ax n v) (upd ay n w) sx sy (mg_rs 4 mx sx) (mg_rs 4 my sy) (mg_rs 4 mc mg_o1) (mg_rs 4 mv mg_o1) (mg_rs 24 mb mg_om) qx qy qc up lo) (wX a cI cZ (nI n) kk ax ay sx sy mx my mc mv mb qx qy qc up lo)) (va_A (wX a cI cZ (nI n) kk ax ay sx sy mx my mc mv mb qx qy qc up lo) sz)) (va_A (wX a cI cZ (nI n) kk ax ay sx sy mx my mc mv mb qx qy qc up lo) sz)) 0 0 (va_A (wX a cI cZ (nI n) kk ax ay sx sy mx my mc mv mb qx qy qc up lo) sz) := by
  refine mg_meti (by decide) (Nat.le_of_ble_eq_true rfl) ?_
  intro p e s m below meth c A ls C hin G hl
  have C : mg_cx p s m _ meth c cX0_add (some .int) 3 RX0 A := C
  obtain ⟨hx, hb, hr, hml, hown, hts, hlk, hA⟩ := id C
  have hl : lv_has ls 3 [(0, _), (1, _), (2, _)] := hl
  refine lv_iload_n hx hb dX0_add_0 rfl (lv_at hl 1 rfl) ?_
  refine iX_inRange C G  ⟨Nat.le_of_ble_eq_true rfl, Nat.le_of_ble_eq_true rfl⟩ ⟨Nat.zero_le _, Nat.zero_le _⟩ hl.1 (Nat.le_of_ble_eq_true rfl) dX0_add_1 (fun r1 H locs hr1 G => ?_)
  refine lv_if_eq (tgt := 23) hx hb dX0_add_4 (by decide) (fun h1 => ?_) (fun h1 => ?_)
  · refine lv_iconst (v := (-1)) hx hb dX0_add_23 (by decide) ?_
    exact mg_iret C false G (Or.inr ⟨rfl, fun q => mg_b0 hr1 h1 q.1, rfl⟩) dX0_add_24
  · refine lv_iload_n hx hb dX0_add_7 rfl (lv_at hl 2 rfl) ?_
    refine iX_inRange C G  ⟨Nat.le_of_ble_eq_true rfl, Nat.le_of_ble_eq_true rfl⟩ ⟨Nat.zero_le _, Nat.zero_le _⟩ hl.1 (Nat.le_of_ble_eq_true rfl) dX0_add_8 (fun r2 H locs hr2 G => ?_)
    refine lv_if_eq (tgt := 23) hx hb dX0_add_11 (by decide) (fun h2 => ?_) (fun h2 => ?_)
    · refine lv_iconst (v := (-1)) hx hb dX0_add_23 (by decide) ?_
      exact mg_iret C false G (Or.inr ⟨rfl, fun q => mg_b0 hr2 h2 q.2.1, rfl⟩) dX0_add_24
    · refine lv_aload_n hx hb dX0_add_14 rfl (lv_at hl 0 rfl) ?_
      refine gX_pt C G dX0_add_15 ?_
      refine lv_bipush (v := (nI 24)) hx hb dX0_add_18 (by decide) ?_
      refine mg_ilt (tgt := 25) hx hb (by omega) (by omega) dX0_add_20 (by decide) (fun h3 => ?_) (fun h3 => ?_)
      · refine lv_aload_n hx hb dX0_add_25 rfl (lv_at hl 0 rfl) ?_
        refine gX_ax C G dX0_add_26 ?_
        refine lv_aload_n hx hb dX0_add_29 rfl (lv_at hl 0 rfl) ?_
        refine gX_pt C G dX0_add_30 ?_
        refine lv_iload_n hx hb dX0_add_33 rfl (lv_at hl 1 rfl) ?_
        refine sX_ax C G (by omega) dX0_add_34 (fun H locs G => ?_)
        refine lv_aload_n hx hb dX0_add_35 rfl (lv_at hl 0 rfl) ?_
        refine gX_ay C G dX0_add_36 ?_
        refine lv_aload_n hx hb dX0_add_39 rfl (lv_at hl 0 rfl) ?_
        refine gX_pt C G dX0_add_40 ?_
        refine lv_iload_n hx hb dX0_add_43 rfl (lv_at hl 2 rfl) ?_
        refine sX_ay C G (by omega) dX0_add_44 (fun H locs G => ?_)
        refine lv_aload_n hx hb dX0_add_45 rfl (lv_at hl 0 rfl) ?_
        refine lv_dup hx hb dX0_add_46 rfl ?_
        refine gX_pt C G dX0_add_47 ?_
        refine lv_iconst (v := (nI 1)) hx hb dX0_add_50 (by decide) ?_
        refine mg_add hx hb dX0_add_51 ?_
        refine pX_pt C G dX0_add_52 (fun H locs G => ?_)
        refine lv_aload_n hx hb dX0_add_55 rfl (lv_at hl 0 rfl) ?_
        refine iX_reset C G  ⟨Nat.le_of_ble_eq_true rfl, Nat.le_of_ble_eq_true rfl⟩ ⟨Nat.zero_le _, Nat.zero_le _⟩ hl.1 (Nat.le_of_ble_eq_true rfl) dX0_add_56 (fun H locs G => ?_)
        refine lv_aload_n hx hb dX0_add_59 rfl (lv_at hl 0 rfl) ?_
        refine gX_pt C G dX0_add_60 ?_
        exact mg_iret C true G (Or.inl ⟨rfl, ⟨mg_b1 hr1 h1, mg_b1 hr2 h2, by omega⟩, rfl⟩) dX0_add_63
      · refine lv_iconst (v := (-1)) hx hb dX0_add_23 (by decide) ?_
        exact mg_iret C false G (Or.inr ⟨rfl, fun q => absurd q.2.2 (by omega), rfl⟩) dX0_add_24
set_option maxHeartbeats 4000000 in
set_option maxRecDepth 100000 in
/-- drop, a loop -/
theorem lX_drop1 {a : Nat → Nat} {cI cZ : ClassId} {kk : Int32} {ax ay sx sy mx my mc mv mb qx qy qc : AR} {up lo : Int64} {N lo0 : Nat} (C : mg_cx p s m args meth c cX0_drop ret 3 RX0 A) (hN : N < 24)
    (go : ∀ (H : Heap) (locs : List Loc) (ls : Array Slot), mg_wd D (mg_ty cI cZ) A s (wX a cI cZ (nI N) kk (mg_sh lo0 N ax) (mg_sh lo0 N ay) sx sy mx my mc mv mb qx qy qc up lo) H locs → lv_has ls 3 [(0, .ref (a 0))] → W p l e R s m args below meth c H locs cells slots Q (F0 m 68 ls [])) :
    ∀ (n i : Nat) , i ≤ N → N < i + n → lo0 ≤ i → ∀ (H : Heap) (locs : List Loc) (ls : Array Slot), mg_wd D (mg_ty cI cZ) A s (wX a cI cZ (nI N) kk (mg_sh lo0 i ax) (mg_sh lo0 i ay) sx sy mx my mc mv mb qx qy qc up lo) H locs → lv_has ls 3 [(2, .int (nI i)), (0, .ref (a 0))] → W p l e R s m args below meth c H locs cells slots Q (F0 m 26 ls []) := by
  obtain ⟨hx, hb, hr, hml, hown, hts, hlk, hA⟩ := id C
  intro n
  induction n with
  | zero => intro i h1 h2; exact absurd h2 (by omega)
  | succ n ih =>
    intro i hi hin hlo H locs ls G hl
    refine lv_iload_n hx hb dX0_drop_26 rfl (lv_at hl 0 rfl) ?_
    refine lv_aload_n hx hb dX0_drop_27 rfl (lv_at hl 1 rfl) ?_
    refine gX_pt C G dX0_drop_28 ?_
    refine mg_ige (tgt := 68) hx hb (by omega) (by omega) dX0_drop_31 (by decide) (fun h => ?_) (fun h => ?_)
    · obtain rfl : i = N := by omega
      exact go H locs ls G (lv_sub hl [1] rfl)
    · refine lv_aload_n hx hb dX0_drop_34 rfl (lv_at hl 1 rfl) ?_
      refine gX_ax C G dX0_drop_35 ?_
      refine lv_iload_n hx hb dX0_drop_38 rfl (lv_at hl 0 rfl) ?_
      refine lv_aload_n hx hb dX0_drop_39 rfl (lv_at hl 1 rfl) ?_
      refine gX_ax C G dX0_drop_40 ?_
      refine lv_iload_n hx hb dX0_drop_43 rfl (lv_at hl 0 rfl) ?_
      refine lv_iconst (v := (nI 1)) hx hb dX0_drop_44 (by decide) ?_
      refine mg_add hx hb dX0_drop_45 ?_
      refine lX_ax C G (by omega) dX0_drop_46 ?_
      refine sX_ax C G (by omega) dX0_drop_47 (fun H locs G => ?_)
      refine lv_aload_n hx hb dX0_drop_48 rfl (lv_at hl 1 rfl) ?_
      refine gX_ay C G dX0_drop_49 ?_
      refine lv_iload_n hx hb dX0_drop_52 rfl (lv_at hl 0 rfl) ?_
      refine lv_aload_n hx hb dX0_drop_53 rfl (lv_at hl 1 rfl) ?_
      refine gX_ay C G dX0_drop_54 ?_
      refine lv_iload_n hx hb dX0_drop_57 rfl (lv_at hl 0 rfl) ?_
      refine lv_iconst (v := (nI 1)) hx hb dX0_drop_58 (by decide) ?_
      refine mg_add hx hb dX0_drop_59 ?_
      refine lX_ay C G (by omega) dX0_drop_60 ?_
      refine sX_ay C G (by omega) dX0_drop_61 (fun H locs G => ?_)
      refine lv_iinc (lv' := [(2, _), (0, _)]) hx hb dX0_drop_62 hl (k := 0) rfl (mg_inc _) (by decide) rfl (fun ls hl => ?_)
      refine lv_goto (tgt := 26) hx hb dX0_drop_65 (by decide) ?_
      rw [mg_sh_s ax hlo, mg_sh_s ay hlo] at G
      exact ih (i + 1) (by omega) (by omega) (by omega) H locs ls G hl
set_option maxHeartbeats 4000000 in
set_option maxRecDepth 100000 in
/-- drop(number) -/
theorem kX_drop (l : Launch) (D : va_G) (a : Nat → Nat) (cI cZ : ClassId) (kk : Int32) (ax ay sx sy mx my mc mv mb qx qy qc : AR) (up lo : Int64) (sz : Nat) (n : Nat) (v : Int32) (hn : n ≤ 24) : Met l yX0_drop (ws_ yX0_drop cX0_drop 3 (some .int)) (mg_R 1 21) (va_Pc [.ref (a 0), .int v] (mg_pre D (mg_ty cI cZ) (wX a cI cZ (nI n) kk ax ay sx sy mx my mc mv mb qx qy qc up lo) sz)) (va_Qi (fun (r : Int32) (u : Bool) => (u = true ∧ (¬ v < 0 ∧ v < nI n) ∧ r = nI (n - 1)) ∨ (u = false ∧ ¬ (¬ v < 0 ∧ v < nI n) ∧ r = -1)) (mg_bk D (mg_ty cI cZ) (fun (u : Bool) => cond u (wX a cI cZ (nI (n - 1)) kk (mg_sh v.toNatClampNeg (n - 1) ax) (mg_sh v.toNatClampNeg (n - 1) ay) sx sy (mg_rs 4 mx sx) (mg_rs 4 my sy) (mg_rs 4 mc mg_o1) (mg_rs 4 mv mg_o1) (mg_rs 24 mb mg_om) qx qy qc up lo) (wX a cI cZ (nI n) kk ax ay sx sy mx my mc mv mb qx qy qc up lo)) (va_A (wX a cI cZ (nI n) kk ax ay sx sy mx my mc mv mb qx qy qc up lo) sz)) (va_A (wX a cI cZ (nI n) kk ax ay sx sy mx my mc mv mb qx qy qc up lo) sz)) 0 0 (va_A (wX a cI cZ (nI n) kk ax ay sx sy mx my mc mv mb qx qy qc up lo) sz) := by
  refine mg_meti (by decide) (Nat.le_of_ble_eq_true rfl) ?_
  intro p e s m below meth c A ls C hin G hl
  have C : mg_cx p s m _ meth c cX0_drop (some .int) 3 RX0 A := C
  obtain ⟨hx, hb, hr, hml, hown, hts, hlk, hA⟩ := id C
  have hl : lv_has ls 3 [(0, _), (1, _)] := hl
  refine lv_iload_n hx hb dX0_drop_0 rfl (lv_at hl 1 rfl) ?_
  refine lv_if_lt (tgt := 12) hx hb dX0_drop_1 (by decide) (fun h1 => ?_) (fun h1 => ?_)
  · refine lv_iconst (v := (-1)) hx hb dX0_drop_12 (by decide) ?_
    exact mg_iret C false G (Or.inr ⟨rfl, fun q => q.1 h1, rfl⟩) dX0_drop_13
  · refine lv_iload_n hx hb dX0_drop_4 rfl (lv_at hl 1 rfl) ?_
    refine lv_aload_n hx hb dX0_drop_5 rfl (lv_at hl 0 rfl) ?_
    refine gX_pt C G dX0_drop_6 ?_
    refine lv_icmp_lt (tgt := 14) hx hb dX0_drop_9 (by decide) (fun h2 => ?_) (fun h2 => ?_)
    · obtain ⟨j, hj, rfl⟩ := nI_of h1
      have hjn : j < n := (nI_ltI hj (by omega)).mp h2
      refine lv_aload_n hx hb dX0_drop_14 rfl (lv_at hl 0 rfl) ?_
      refine lv_dup hx hb dX0_drop_15 rfl ?_
      refine gX_pt C G dX0_drop_16 ?_
      refine lv_iconst (v := (nI 1)) hx hb dX0_drop_19 (by decide) ?_
      refine mg_sub hx hb (by omega) dX0_drop_20 ?_
      refine pX_pt C G dX0_drop_21 (fun H locs G => ?_)
      refine lv_iload_n hx hb dX0_drop_24 rfl (lv_at hl 1 rfl) ?_
      refine lv_istore_n (lv' := [(2, _), (0, _), (1, _)]) hx hb dX0_drop_25 rfl hl (by decide) rfl (fun ls hl => ?_)
      have G : mg_wd D (mg_ty cI cZ) A s (wX a cI cZ (nI (n - 1)) kk (mg_sh j j ax) (mg_sh j j ay) sx sy mx my mc mv mb qx qy qc up lo) H locs := by rw [mg_sh_0, mg_sh_0]; exact G
      refine lX_drop1 C (by omega) (fun H locs ls G hl => ?_) 25 j (by omega) (by omega) (Nat.le_refl j) H locs ls G (lv_sub hl [0, 1] rfl)
      refine lv_aload_n hx hb dX0_drop_68 rfl (lv_at hl 0 rfl) ?_
      refine iX_reset C G  ⟨Nat.le_of_ble_eq_true rfl, Nat.le_of_ble_eq_true rfl⟩ ⟨Nat.zero_le _, Nat.zero_le _⟩ hl.1 (Nat.le_of_ble_eq_true rfl) dX0_drop_69 (fun H locs G => ?_)
      refine lv_aload_n hx hb dX0_drop_72 rfl (lv_at hl 0 rfl) ?_
      refine gX_pt C G dX0_drop_73 ?_
      exact mg_iret C true (by rw [nI_clamp hj]; exact G) (Or.inl ⟨rfl, ⟨h1, h2⟩, rfl⟩) dX0_drop_76
    · refine lv_iconst (v := (-1)) hx hb dX0_drop_12 (by decide) ?_
      exact mg_iret C false G (Or.inr ⟨rfl, fun q => h2 q.2, rfl⟩) dX0_drop_13
set_option maxHeartbeats 4000000 in
set_option maxRecDepth 100000 in
/-- seed(group, x, y) -/
theorem kX_seed (l : Launch) (D : va_G) (a : Nat → Nat) (cI cZ : ClassId) (pt kk : Int32) (ax ay sx sy mx my mc mv mb qx qy qc : AR) (up lo : Int64) (sz : Nat) (v x1 y1 : Int32)  : Met l yX0_seed (ws_ yX0_seed cX0_seed 4 (some .int)) (mg_R 1 21) (va_Pc [.ref (a 0), .int v, .int x1, .int y1] (mg_pre D (mg_ty cI cZ) (wX a cI cZ pt kk ax ay sx sy mx my mc mv mb qx qy qc up lo) sz)) (va_Qi (fun (r : Int32) (u : Bool) => (u = true ∧ ((¬ v < 0 ∧ ¬ 3 < v) ∧ mg_in x1 ∧ mg_in y1) ∧ r = 0) ∨ (u = false ∧ ¬ ((¬ v < 0 ∧ ¬ 3 < v) ∧ mg_in x1 ∧ mg_in y1) ∧ r = -1)) (mg_bk D (mg_ty cI cZ) (fun (u : Bool) => cond u (wX a cI cZ pt kk ax ay (upd sx v.toNatClampNeg x1) (upd sy v.toNatClampNeg y1) (mg_rs 4 mx (upd sx v.toNatClampNeg x1)) (mg_rs 4 my (upd sy v.toNatClampNeg y1)) (mg_rs 4 mc mg_o1) (mg_rs 4 mv mg_o1) (mg_rs 24 mb mg_om) qx qy qc up lo) (wX a cI cZ pt kk ax ay sx sy mx my mc mv mb qx qy qc up lo)) (va_A (wX a cI cZ pt kk ax ay sx sy mx my mc mv mb qx qy qc up lo) sz)) (va_A (wX a cI cZ pt kk ax ay sx sy mx my mc mv mb qx qy qc up lo) sz)) 0 0 (va_A (wX a cI cZ pt kk ax ay sx sy mx my mc mv mb qx qy qc up lo) sz) := by
  refine mg_meti (by decide) (Nat.le_of_ble_eq_true rfl) ?_
  intro p e s m below meth c A ls C hin G hl
  have C : mg_cx p s m _ meth c cX0_seed (some .int) 4 RX0 A := C
  obtain ⟨hx, hb, hr, hml, hown, hts, hlk, hA⟩ := id C
  have hl : lv_has ls 4 [(0, _), (1, _), (2, _), (3, _)] := hl
  refine lv_iload_n hx hb dX0_seed_0 rfl (lv_at hl 1 rfl) ?_
  refine lv_if_lt (tgt := 23) hx hb dX0_seed_1 (by decide) (fun h1 => ?_) (fun h1 => ?_)
  · refine lv_iconst (v := (-1)) hx hb dX0_seed_23 (by decide) ?_
    exact mg_iret C false G (Or.inr ⟨rfl, fun q => q.1.1 h1, rfl⟩) dX0_seed_24
  · refine lv_iload_n hx hb dX0_seed_4 rfl (lv_at hl 1 rfl) ?_
    refine lv_iconst (v := (3)) hx hb dX0_seed_5 (by decide) ?_
    refine lv_icmp_gt (tgt := 23) hx hb dX0_seed_6 (by decide) (fun h2 => ?_) (fun h2 => ?_)
    · refine lv_iconst (v := (-1)) hx hb dX0_seed_23 (by decide) ?_
      exact mg_iret C false G (Or.inr ⟨rfl, fun q => q.1.2 h2, rfl⟩) dX0_seed_24
    · refine lv_iload_n hx hb dX0_seed_9 rfl (lv_at hl 2 rfl) ?_
      refine iX_inRange C G  ⟨Nat.le_of_ble_eq_true rfl, Nat.le_of_ble_eq_true rfl⟩ ⟨Nat.zero_le _, Nat.zero_le _⟩ hl.1 (Nat.le_of_ble_eq_true rfl) dX0_seed_10 (fun r1 H locs hr1 G => ?_)
      refine lv_if_eq (tgt := 23) hx hb dX0_seed_13 (by decide) (fun h3 => ?_) (fun h3 => ?_)
      · refine lv_iconst (v := (-1)) hx hb dX0_seed_23 (by decide) ?_
        exact mg_iret C false G (Or.inr ⟨rfl, fun q => mg_b0 hr1 h3 q.2.1, rfl⟩) dX0_seed_24
      · refine lv_iload_n hx hb dX0_seed_16 rfl (lv_at hl 3 rfl) ?_
        refine iX_inRange C G  ⟨Nat.le_of_ble_eq_true rfl, Nat.le_of_ble_eq_true rfl⟩ ⟨Nat.zero_le _, Nat.zero_le _⟩ hl.1 (Nat.le_of_ble_eq_true rfl) dX0_seed_17 (fun r2 H locs hr2 G => ?_)
        refine lv_if_ne (tgt := 25) hx hb dX0_seed_20 (by decide) (fun h4 => ?_) (fun h4 => ?_)
        · obtain ⟨j, hj, rfl⟩ := nI_of h1
          have hj4 : j < 4 := Nat.lt_of_not_le (fun q => h2 ((nI_ltI (a := 3) (by decide) hj).mpr q))
          refine lv_aload_n hx hb dX0_seed_25 rfl (lv_at hl 0 rfl) ?_
          refine gX_sx C G dX0_seed_26 ?_
          refine lv_iload_n hx hb dX0_seed_29 rfl (lv_at hl 1 rfl) ?_
          refine lv_iload_n hx hb dX0_seed_30 rfl (lv_at hl 2 rfl) ?_
          refine sX_sx C G (by omega) dX0_seed_31 (fun H locs G => ?_)
          refine lv_aload_n hx hb dX0_seed_32 rfl (lv_at hl 0 rfl) ?_
          refine gX_sy C G dX0_seed_33 ?_
          refine lv_iload_n hx hb dX0_seed_36 rfl (lv_at hl 1 rfl) ?_
          refine lv_iload_n hx hb dX0_seed_37 rfl (lv_at hl 3 rfl) ?_
          refine sX_sy C G (by omega) dX0_seed_38 (fun H locs G => ?_)
          refine lv_aload_n hx hb dX0_seed_39 rfl (lv_at hl 0 rfl) ?_
          refine iX_reset C G  ⟨Nat.le_of_ble_eq_true rfl, Nat.le_of_ble_eq_true rfl⟩ ⟨Nat.zero_le _, Nat.zero_le _⟩ hl.1 (Nat.le_of_ble_eq_true rfl) dX0_seed_40 (fun H locs G => ?_)
          refine lv_iconst (v := (0)) hx hb dX0_seed_43 (by decide) ?_
          exact mg_iret C true (by rw [nI_clamp hj]; exact G) (Or.inl ⟨rfl, ⟨⟨h1, h2⟩, mg_b1 hr1 h3, mg_b1 hr2 h4⟩, rfl⟩) dX0_seed_44
        · refine lv_iconst (v := (-1)) hx hb dX0_seed_23 (by decide) ?_
          exact mg_iret C false G (Or.inr ⟨rfl, fun q => mg_b0 hr2 h4 q.2.2, rfl⟩) dX0_seed_24
set_option maxHeartbeats 4000000 in
set_option maxRecDepth 100000 in
/-- groups(k) -/
theorem kX_groups (l : Launch) (D : va_G) (a : Nat → Nat) (cI cZ : ClassId) (pt kk : Int32) (ax ay sx sy mx my mc mv mb qx qy qc : AR) (up lo : Int64) (sz : Nat) (v : Int32)  : Met l yX0_groups (ws_ yX0_groups cX0_groups 2 none) (mg_R 1 21) (va_Pc [.ref (a 0), .int v] (mg_pre D (mg_ty cI cZ) (wX a cI cZ pt kk ax ay sx sy mx my mc mv mb qx qy qc up lo) sz)) (va_Qv (fun (u : Unit) => True) (mg_bk D (mg_ty cI cZ) (fun (u : Unit) => wX a cI cZ pt (mg_kf v) ax ay sx sy (mg_rs 4 mx sx) (mg_rs 4 my sy) (mg_rs 4 mc mg_o1) (mg_rs 4 mv mg_o1) (mg_rs 24 mb mg_om) qx qy qc up lo) (va_A (wX a cI cZ pt kk ax ay sx sy mx my mc mv mb qx qy qc up lo) sz)) (va_A (wX a cI cZ pt kk ax ay sx sy mx my mc mv mb qx qy qc up lo) sz)) 0 0 (va_A (wX a cI cZ pt kk ax ay sx sy mx my mc mv mb qx qy qc up lo) sz) := by
  refine mg_metv (by decide) (Nat.le_of_ble_eq_true rfl) ?_
  intro p e s m below meth c A ls C hin G hl
  have C : mg_cx p s m _ meth c cX0_groups none 2 RX0 A := C
  obtain ⟨hx, hb, hr, hml, hown, hts, hlk, hA⟩ := id C
  have hl : lv_has ls 2 [(0, _), (1, _)] := hl
  refine lv_aload_n hx hb dX0_groups_0 rfl (lv_at hl 0 rfl) ?_
  refine lv_iload_n hx hb dX0_groups_1 rfl (lv_at hl 1 rfl) ?_
  refine lv_iconst (v := (1)) hx hb dX0_groups_2 (by decide) ?_
  refine lv_icmp_ge (tgt := 10) hx hb dX0_groups_3 (by decide) (fun h1 => ?_) (fun h1 => ?_)
  · refine lv_iload_n hx hb dX0_groups_10 rfl (lv_at hl 1 rfl) ?_
    refine lv_iconst (v := (4)) hx hb dX0_groups_11 (by decide) ?_
    refine lv_icmp_le (tgt := 19) hx hb dX0_groups_12 (by decide) (fun h2 => ?_) (fun h2 => ?_)
    · refine lv_iload_n hx hb dX0_groups_19 rfl (lv_at hl 1 rfl) ?_
      refine pX_kk C G dX0_groups_20 (fun H locs G => ?_)
      refine lv_aload_n hx hb dX0_groups_23 rfl (lv_at hl 0 rfl) ?_
      refine iX_reset C G  ⟨Nat.le_of_ble_eq_true rfl, Nat.le_of_ble_eq_true rfl⟩ ⟨Nat.zero_le _, Nat.zero_le _⟩ hl.1 (Nat.le_of_ble_eq_true rfl) dX0_groups_24 (fun H locs G => ?_)
      exact mg_vret C () (by rw [show mg_kf v = _ from (if_pos h1).trans (if_pos h2)]; exact G) trivial dX0_groups_27
    · refine lv_iconst (v := (4)) hx hb dX0_groups_15 (by decide) ?_
      refine lv_goto (tgt := 20) hx hb dX0_groups_16 (by decide) ?_
      refine pX_kk C G dX0_groups_20 (fun H locs G => ?_)
      refine lv_aload_n hx hb dX0_groups_23 rfl (lv_at hl 0 rfl) ?_
      refine iX_reset C G  ⟨Nat.le_of_ble_eq_true rfl, Nat.le_of_ble_eq_true rfl⟩ ⟨Nat.zero_le _, Nat.zero_le _⟩ hl.1 (Nat.le_of_ble_eq_true rfl) dX0_groups_24 (fun H locs G => ?_)
      exact mg_vret C () (by rw [show mg_kf v = _ from (if_pos h1).trans (if_neg h2)]; exact G) trivial dX0_groups_27
  · refine lv_iconst (v := (1)) hx hb dX0_groups_6 (by decide) ?_
    refine lv_goto (tgt := 20) hx hb dX0_groups_7 (by decide) ?_
    refine pX_kk C G dX0_groups_20 (fun H locs G => ?_)
    refine lv_aload_n hx hb dX0_groups_23 rfl (lv_at hl 0 rfl) ?_
    refine iX_reset C G  ⟨Nat.le_of_ble_eq_true rfl, Nat.le_of_ble_eq_true rfl⟩ ⟨Nat.zero_le _, Nat.zero_le _⟩ hl.1 (Nat.le_of_ble_eq_true rfl) dX0_groups_24 (fun H locs G => ?_)
    exact mg_vret C () (by rw [show mg_kf v = _ from if_neg h1]; exact G) trivial dX0_groups_27
set_option maxHeartbeats 4000000 in
set_option maxRecDepth 100000 in
/-- group(number) -/
theorem kX_group (l : Launch) (D : va_G) (a : Nat → Nat) (cI cZ : ClassId) (kk : Int32) (ax ay sx sy mx my mc mv mb qx qy qc : AR) (up lo : Int64) (sz : Nat) (n : Nat) (v : Int32) (hn : n ≤ 24) : Met l yX0_group (ws_ yX0_group cX0_group 2 (some .int)) (mg_R 0 0) (va_Pc [.ref (a 0), .int v] (mg_pre D (mg_ty cI cZ) (wX a cI cZ (nI n) kk ax ay sx sy mx my mc mv mb qx qy qc up lo) sz)) (va_Qi (fun (r : Int32) (u : Unit) => r = if ¬ v < 0 ∧ v < nI n then mb v.toNatClampNeg else -1) (mg_bk D (mg_ty cI cZ) (fun (u : Unit) => wX a cI cZ (nI n) kk ax ay sx sy mx my mc mv mb qx qy qc up lo) (va_A (wX a cI cZ (nI n) kk ax ay sx sy mx my mc mv mb qx qy qc up lo) sz)) (va_A (wX a cI cZ (nI n) kk ax ay sx sy mx my mc mv mb qx qy qc up lo) sz)) 0 0 (va_A (wX a cI cZ (nI n) kk ax ay sx sy mx my mc mv mb qx qy qc up lo) sz) := by
  refine mg_meti (by decide) (Nat.le_of_ble_eq_true rfl) ?_
  intro p e s m below meth c A ls C hin G hl
  have C : mg_cx p s m _ meth c cX0_group (some .int) 2 RX0 A := C
  obtain ⟨hx, hb, hr, hml, hown, hts, hlk, hA⟩ := id C
  have hl : lv_has ls 2 [(0, _), (1, _)] := hl
  refine lv_iload_n hx hb dX0_group_0 rfl (lv_at hl 1 rfl) ?_
  refine lv_if_lt (tgt := 12) hx hb dX0_group_1 (by decide) (fun h1 => ?_) (fun h1 => ?_)
  · refine lv_iconst (v := (-1)) hx hb dX0_group_12 (by decide) ?_
    refine lv_goto (tgt := 22) hx hb dX0_group_13 (by decide) ?_
    exact mg_iret C () G (if_neg (fun q => q.1 h1)).symm dX0_group_22
  · refine lv_iload_n hx hb dX0_group_4 rfl (lv_at hl 1 rfl) ?_
    refine lv_aload_n hx hb dX0_group_5 rfl (lv_at hl 0 rfl) ?_
    refine gX_pt C G dX0_group_6 ?_
    refine lv_icmp_lt (tgt := 16) hx hb dX0_group_9 (by decide) (fun h2 => ?_) (fun h2 => ?_)
    · obtain ⟨j, hj, rfl⟩ := nI_of h1
      have hjn : j < n := (nI_ltI hj (by omega)).mp h2
      refine lv_aload_n hx hb dX0_group_16 rfl (lv_at hl 0 rfl) ?_
      refine gX_mb C G dX0_group_17 ?_
      refine lv_iload_n hx hb dX0_group_20 rfl (lv_at hl 1 rfl) ?_
      refine lX_mb C G (by omega) dX0_group_21 ?_
      exact mg_iret C () G (by rw [if_pos ⟨h1, h2⟩, nI_clamp hj]) dX0_group_22
    · refine lv_iconst (v := (-1)) hx hb dX0_group_12 (by decide) ?_
      refine lv_goto (tgt := 22) hx hb dX0_group_13 (by decide) ?_
      exact mg_iret C () G (if_neg (fun q => h2 q.2)).symm dX0_group_22
set_option maxHeartbeats 4000000 in
set_option maxRecDepth 100000 in
/-- size, a loop -/
theorem lX_size1 {a : Nat → Nat} {cI cZ : ClassId} {kk : Int32} {ax ay sx sy mx my mc mv mb qx qy qc : AR} {up lo : Int64} {N : Nat} {v : Int32} (C : mg_cx p s m args meth c cX0_size ret 4 RX0 A) (hN : N ≤ 24)
    (go : ∀ (H : Heap) (locs : List Loc) (ls : Array Slot), mg_wd D (mg_ty cI cZ) A s (wX a cI cZ (nI N) kk ax ay sx sy mx my mc mv mb qx qy qc up lo) H locs → lv_has ls 4 [(2, .int (mg_sz mb v N))] → W p l e R s m args below meth c H locs cells slots Q (F0 m 40 ls [])) :
    ∀ (n i : Nat) , i ≤ N → N < i + n → ∀ (H : Heap) (locs : List Loc) (ls : Array Slot), mg_wd D (mg_ty cI cZ) A s (wX a cI cZ (nI N) kk ax ay sx sy mx my mc mv mb qx qy qc up lo) H locs → lv_has ls 4 [(2, .int (mg_sz mb v i)), (3, .int (nI i)), (0, .ref (a 0)), (1, .int v)] → W p l e R s m args below meth c H locs cells slots Q (F0 m 4 ls []) := by
  obtain ⟨hx, hb, hr, hml, hown, hts, hlk, hA⟩ := id C
  intro n
  induction n with
  | zero => intro i h1 h2; exact absurd h2 (by omega)
  | succ n ih =>
    intro i hi hin  H locs ls G hl
    refine lv_iload_n hx hb dX0_size_4 rfl (lv_at hl 1 rfl) ?_
    refine lv_aload_n hx hb dX0_size_5 rfl (lv_at hl 2 rfl) ?_
    refine gX_pt C G dX0_size_6 ?_
    refine mg_ige (tgt := 40) hx hb (by omega) (by omega) dX0_size_9 (by decide) (fun h => ?_) (fun h => ?_)
    · obtain rfl : i = N := by omega
      exact go H locs ls G (lv_sub hl [0] rfl)
    · refine lv_iload_n hx hb dX0_size_12 rfl (lv_at hl 0 rfl) ?_
      refine lv_iload_n hx hb dX0_size_13 rfl (lv_at hl 3 rfl) ?_
      refine lv_if_lt (tgt := 31) hx hb dX0_size_14 (by decide) (fun h1 => ?_) (fun h1 => ?_)
      · refine lv_iconst (v := (0)) hx hb dX0_size_31 (by decide) ?_
        refine lv_iadd hx hb dX0_size_32 ?_
        refine lv_istore_n (lv' := [(2, _), (3, _), (0, _), (1, _)]) hx hb dX0_size_33 rfl hl (by decide) rfl (fun ls hl => ?_)
        refine lv_iinc (lv' := [(3, _), (2, _), (0, _), (1, _)]) hx hb dX0_size_34 hl (k := 1) rfl (mg_inc _) (by decide) rfl (fun ls hl => ?_)
        refine lv_goto (tgt := 4) hx hb dX0_size_37 (by decide) ?_
        exact ih (i + 1) (by omega) (by omega) H locs ls G (by rw [show mg_sz mb v (i + 1) = _ from (if_neg (fun q => q.1 h1)).trans (Int32.add_zero _).symm]; exact lv_sub hl [1, 0, 2, 3] rfl)
      · refine lv_aload_n hx hb dX0_size_17 rfl (lv_at hl 2 rfl) ?_
        refine gX_mb C G dX0_size_18 ?_
        refine lv_iload_n hx hb dX0_size_21 rfl (lv_at hl 1 rfl) ?_
        refine lX_mb C G (by omega) dX0_size_22 ?_
        refine lv_iload_n hx hb dX0_size_23 rfl (lv_at hl 3 rfl) ?_
        refine lv_icmp_ne (tgt := 31) hx hb dX0_size_24 (by decide) (fun h2 => ?_) (fun h2 => ?_)
        · refine lv_iconst (v := (0)) hx hb dX0_size_31 (by decide) ?_
          refine lv_iadd hx hb dX0_size_32 ?_
          refine lv_istore_n (lv' := [(2, _), (3, _), (0, _), (1, _)]) hx hb dX0_size_33 rfl hl (by decide) rfl (fun ls hl => ?_)
          refine lv_iinc (lv' := [(3, _), (2, _), (0, _), (1, _)]) hx hb dX0_size_34 hl (k := 1) rfl (mg_inc _) (by decide) rfl (fun ls hl => ?_)
          refine lv_goto (tgt := 4) hx hb dX0_size_37 (by decide) ?_
          exact ih (i + 1) (by omega) (by omega) H locs ls G (by rw [show mg_sz mb v (i + 1) = _ from (if_neg (fun q => h2 q.2)).trans (Int32.add_zero _).symm]; exact lv_sub hl [1, 0, 2, 3] rfl)
        · refine lv_iconst (v := (1)) hx hb dX0_size_27 (by decide) ?_
          refine lv_goto (tgt := 32) hx hb dX0_size_28 (by decide) ?_
          refine lv_iadd hx hb dX0_size_32 ?_
          refine lv_istore_n (lv' := [(2, _), (3, _), (0, _), (1, _)]) hx hb dX0_size_33 rfl hl (by decide) rfl (fun ls hl => ?_)
          refine lv_iinc (lv' := [(3, _), (2, _), (0, _), (1, _)]) hx hb dX0_size_34 hl (k := 1) rfl (mg_inc _) (by decide) rfl (fun ls hl => ?_)
          refine lv_goto (tgt := 4) hx hb dX0_size_37 (by decide) ?_
          exact ih (i + 1) (by omega) (by omega) H locs ls G (by rw [show mg_sz mb v (i + 1) = _ from if_pos ⟨h1, h2⟩]; exact lv_sub hl [1, 0, 2, 3] rfl)
set_option maxHeartbeats 4000000 in
set_option maxRecDepth 100000 in
/-- size(group) -/
theorem kX_size (l : Launch) (D : va_G) (a : Nat → Nat) (cI cZ : ClassId) (kk : Int32) (ax ay sx sy mx my mc mv mb qx qy qc : AR) (up lo : Int64) (sz : Nat) (n : Nat) (v : Int32) (hn : n ≤ 24) : Met l yX0_size (ws_ yX0_size cX0_size 4 (some .int)) (mg_R 0 0) (va_Pc [.ref (a 0), .int v] (mg_pre D (mg_ty cI cZ) (wX a cI cZ (nI n) kk ax ay sx sy mx my mc mv mb qx qy qc up lo) sz)) (va_Qi (fun (r : Int32) (u : Unit) => r = mg_sz mb v n) (mg_bk D (mg_ty cI cZ) (fun (u : Unit) => wX a cI cZ (nI n) kk ax ay sx sy mx my mc mv mb qx qy qc up lo) (va_A (wX a cI cZ (nI n) kk ax ay sx sy mx my mc mv mb qx qy qc up lo) sz)) (va_A (wX a cI cZ (nI n) kk ax ay sx sy mx my mc mv mb qx qy qc up lo) sz)) 0 0 (va_A (wX a cI cZ (nI n) kk ax ay sx sy mx my mc mv mb qx qy qc up lo) sz) := by
  refine mg_meti (by decide) (Nat.le_of_ble_eq_true rfl) ?_
  intro p e s m below meth c A ls C hin G hl
  have C : mg_cx p s m _ meth c cX0_size (some .int) 4 RX0 A := C
  obtain ⟨hx, hb, hr, hml, hown, hts, hlk, hA⟩ := id C
  have hl : lv_has ls 4 [(0, _), (1, _)] := hl
  refine lv_iconst (v := (mg_sz mb v 0)) hx hb dX0_size_0 rfl ?_
  refine lv_istore_n (lv' := [(2, _), (0, _), (1, _)]) hx hb dX0_size_1 rfl hl (by decide) rfl (fun ls hl => ?_)
  refine lv_iconst (v := (nI 0)) hx hb dX0_size_2 (by decide) ?_
  refine lv_istore_n (lv' := [(3, _), (2, _), (0, _), (1, _)]) hx hb dX0_size_3 rfl hl (by decide) rfl (fun ls hl => ?_)
  refine lX_size1 C hn (fun H locs ls G hl => ?_) 25 0 (by omega) (by omega) _ _ ls G (lv_sub hl [1, 0, 2, 3] rfl)
  refine lv_iload_n hx hb dX0_size_40 rfl (lv_at hl 0 rfl) ?_
  exact mg_iret C () G rfl dX0_size_41
set_option maxHeartbeats 4000000 in
set_option maxRecDepth 100000 in
/-- sum, a loop -/
theorem lX_sum1 {a : Nat → Nat} {cI cZ : ClassId} {kk : Int32} {ax ay sx sy mx my mc mv mb qx qy qc : AR} {up lo : Int64} {N : Nat} {v w : Int32} (C : mg_cx p s m args meth c cX0_sum ret 5 RX0 A) (hN : N ≤ 24)
    (go : ∀ (H : Heap) (locs : List Loc) (ls : Array Slot), mg_wd D (mg_ty cI cZ) A s (wX a cI cZ (nI N) kk ax ay sx sy mx my mc mv mb qx qy qc up lo) H locs → lv_has ls 5 [(3, .int (mg_sm ax ay mb v w N))] → W p l e R s m args below meth c H locs cells slots Q (F0 m 107 ls [])) :
    ∀ (n i : Nat) , i ≤ N → N < i + n → ∀ (H : Heap) (locs : List Loc) (ls : Array Slot), mg_wd D (mg_ty cI cZ) A s (wX a cI cZ (nI N) kk ax ay sx sy mx my mc mv mb qx qy qc up lo) H locs → lv_has ls 5 [(3, .int (mg_sm ax ay mb v w i)), (4, .int (nI i)), (0, .ref (a 0)), (1, .int v), (2, .int w)] → W p l e R s m args below meth c H locs cells slots Q (F0 m 5 ls []) := by
  obtain ⟨hx, hb, hr, hml, hown, hts, hlk, hA⟩ := id C
  intro n
  induction n with
  | zero => intro i h1 h2; exact absurd h2 (by omega)
  | succ n ih =>
    intro i hi hin  H locs ls G hl
    refine lv_iload hx hb dX0_sum_5 (lv_at hl 1 rfl) ?_
    refine lv_aload_n hx hb dX0_sum_7 rfl (lv_at hl 2 rfl) ?_
    refine gX_pt C G dX0_sum_8 ?_
    refine mg_ige (tgt := 107) hx hb (by omega) (by omega) dX0_sum_11 (by decide) (fun h => ?_) (fun h => ?_)
    · obtain rfl : i = N := by omega
      exact go H locs ls G (lv_sub hl [0] rfl)
    · refine lv_iload_n hx hb dX0_sum_14 rfl (lv_at hl 3 rfl) ?_
      refine lv_if_lt (tgt := 101) hx hb dX0_sum_15 (by decide) (fun h1 => ?_) (fun h1 => ?_)
      · refine lv_iinc (lv' := [(4, _), (3, _), (0, _), (1, _), (2, _)]) hx hb dX0_sum_101 hl (k := 1) rfl (mg_inc _) (by decide) rfl (fun ls hl => ?_)
        refine lv_goto (tgt := 5) hx hb dX0_sum_104 (by decide) ?_
        exact ih (i + 1) (by omega) (by omega) H locs ls G (by rw [show mg_sm ax ay mb v w (i + 1) = _ from if_neg (fun q => q.1 h1)]; exact lv_sub hl [1, 0, 2, 3, 4] rfl)
      · refine lv_aload_n hx hb dX0_sum_18 rfl (lv_at hl 2 rfl) ?_
        refine gX_mb C G dX0_sum_19 ?_
        refine lv_iload hx hb dX0_sum_22 (lv_at hl 1 rfl) ?_
        refine lX_mb C G (by omega) dX0_sum_24 ?_
        refine lv_iload_n hx hb dX0_sum_25 rfl (lv_at hl 3 rfl) ?_
        refine lv_icmp_ne (tgt := 101) hx hb dX0_sum_26 (by decide) (fun h2 => ?_) (fun h2 => ?_)
        · refine lv_iinc (lv' := [(4, _), (3, _), (0, _), (1, _), (2, _)]) hx hb dX0_sum_101 hl (k := 1) rfl (mg_inc _) (by decide) rfl (fun ls hl => ?_)
          refine lv_goto (tgt := 5) hx hb dX0_sum_104 (by decide) ?_
          exact ih (i + 1) (by omega) (by omega) H locs ls G (by rw [show mg_sm ax ay mb v w (i + 1) = _ from if_neg (fun q => h2 q.2)]; exact lv_sub hl [1, 0, 2, 3, 4] rfl)
        · have e1 : mg_sm ax ay mb v w (i + 1) = mg_sm ax ay mb v w i + mg_sv ax ay w i := if_pos ⟨h1, h2⟩
          refine lv_iload_n hx hb dX0_sum_29 rfl (lv_at hl 0 rfl) ?_
          refine lv_iload_n hx hb dX0_sum_30 rfl (lv_at hl 4 rfl) ?_
          refine lv_if_ne (tgt := 44) hx hb dX0_sum_31 (by decide) (fun h3 => ?_) (fun h3 => ?_)
          · refine lv_iload_n hx hb dX0_sum_44 rfl (lv_at hl 4 rfl) ?_
            refine lv_iconst (v := (1)) hx hb dX0_sum_45 (by decide) ?_
            refine lv_icmp_ne (tgt := 59) hx hb dX0_sum_46 (by decide) (fun h4 => ?_) (fun h4 => ?_)
            · refine lv_iload_n hx hb dX0_sum_59 rfl (lv_at hl 4 rfl) ?_
              refine lv_iconst (v := (2)) hx hb dX0_sum_60 (by decide) ?_
              refine lv_icmp_ne (tgt := 98) hx hb dX0_sum_61 (by decide) (fun h5 => ?_) (fun h5 => ?_)
              · refine lv_iconst (v := (0)) hx hb dX0_sum_98 (by decide) ?_
                refine lv_iadd hx hb dX0_sum_99 ?_
                refine lv_istore_n (lv' := [(3, _), (4, _), (0, _), (1, _), (2, _)]) hx hb dX0_sum_100 rfl hl (by decide) rfl (fun ls hl => ?_)
                refine lv_iinc (lv' := [(4, _), (3, _), (0, _), (1, _), (2, _)]) hx hb dX0_sum_101 hl (k := 1) rfl (mg_inc _) (by decide) rfl (fun ls hl => ?_)
                refine lv_goto (tgt := 5) hx hb dX0_sum_104 (by decide) ?_
                exact ih (i + 1) (by omega) (by omega) H locs ls G (by rw [e1, show mg_sv ax ay w i = _ from (if_neg h3).trans ((if_neg h4).trans (if_neg h5))]; exact lv_sub hl [1, 0, 2, 3, 4] rfl)
              · refine lv_aload_n hx hb dX0_sum_64 rfl (lv_at hl 2 rfl) ?_
                refine gX_ax C G dX0_sum_65 ?_
                refine lv_iload hx hb dX0_sum_68 (lv_at hl 1 rfl) ?_
                refine lX_ax C G (by omega) dX0_sum_70 ?_
                refine lv_aload_n hx hb dX0_sum_71 rfl (lv_at hl 2 rfl) ?_
                refine gX_ax C G dX0_sum_72 ?_
                refine lv_iload hx hb dX0_sum_75 (lv_at hl 1 rfl) ?_
                refine lX_ax C G (by omega) dX0_sum_77 ?_
                refine lv_imul hx hb dX0_sum_78 ?_
                refine lv_aload_n hx hb dX0_sum_79 rfl (lv_at hl 2 rfl) ?_
                refine gX_ay C G dX0_sum_80 ?_
                refine lv_iload hx hb dX0_sum_83 (lv_at hl 1 rfl) ?_
                refine lX_ay C G (by omega) dX0_sum_85 ?_
                refine lv_aload_n hx hb dX0_sum_86 rfl (lv_at hl 2 rfl) ?_
                refine gX_ay C G dX0_sum_87 ?_
                refine lv_iload hx hb dX0_sum_90 (lv_at hl 1 rfl) ?_
                refine lX_ay C G (by omega) dX0_sum_92 ?_
                refine lv_imul hx hb dX0_sum_93 ?_
                refine lv_iadd hx hb dX0_sum_94 ?_
                refine lv_goto (tgt := 99) hx hb dX0_sum_95 (by decide) ?_
                refine lv_iadd hx hb dX0_sum_99 ?_
                refine lv_istore_n (lv' := [(3, _), (4, _), (0, _), (1, _), (2, _)]) hx hb dX0_sum_100 rfl hl (by decide) rfl (fun ls hl => ?_)
                refine lv_iinc (lv' := [(4, _), (3, _), (0, _), (1, _), (2, _)]) hx hb dX0_sum_101 hl (k := 1) rfl (mg_inc _) (by decide) rfl (fun ls hl => ?_)
                refine lv_goto (tgt := 5) hx hb dX0_sum_104 (by decide) ?_
                exact ih (i + 1) (by omega) (by omega) H locs ls G (by rw [e1, show mg_sv ax ay w i = _ from (if_neg h3).trans ((if_neg h4).trans (if_pos h5))]; exact lv_sub hl [1, 0, 2, 3, 4] rfl)
            · refine lv_aload_n hx hb dX0_sum_49 rfl (lv_at hl 2 rfl) ?_
              refine gX_ay C G dX0_sum_50 ?_
              refine lv_iload hx hb dX0_sum_53 (lv_at hl 1 rfl) ?_
              refine lX_ay C G (by omega) dX0_sum_55 ?_
              refine lv_goto (tgt := 99) hx hb dX0_sum_56 (by decide) ?_
              refine lv_iadd hx hb dX0_sum_99 ?_
              refine lv_istore_n (lv' := [(3, _), (4, _), (0, _), (1, _), (2, _)]) hx hb dX0_sum_100 rfl hl (by decide) rfl (fun ls hl => ?_)
              refine lv_iinc (lv' := [(4, _), (3, _), (0, _), (1, _), (2, _)]) hx hb dX0_sum_101 hl (k := 1) rfl (mg_inc _) (by decide) rfl (fun ls hl => ?_)
              refine lv_goto (tgt := 5) hx hb dX0_sum_104 (by decide) ?_
              exact ih (i + 1) (by omega) (by omega) H locs ls G (by rw [e1, show mg_sv ax ay w i = _ from (if_neg h3).trans (if_pos h4)]; exact lv_sub hl [1, 0, 2, 3, 4] rfl)
          · refine lv_aload_n hx hb dX0_sum_34 rfl (lv_at hl 2 rfl) ?_
            refine gX_ax C G dX0_sum_35 ?_
            refine lv_iload hx hb dX0_sum_38 (lv_at hl 1 rfl) ?_
            refine lX_ax C G (by omega) dX0_sum_40 ?_
            refine lv_goto (tgt := 99) hx hb dX0_sum_41 (by decide) ?_
            refine lv_iadd hx hb dX0_sum_99 ?_
            refine lv_istore_n (lv' := [(3, _), (4, _), (0, _), (1, _), (2, _)]) hx hb dX0_sum_100 rfl hl (by decide) rfl (fun ls hl => ?_)
            refine lv_iinc (lv' := [(4, _), (3, _), (0, _), (1, _), (2, _)]) hx hb dX0_sum_101 hl (k := 1) rfl (mg_inc _) (by decide) rfl (fun ls hl => ?_)
            refine lv_goto (tgt := 5) hx hb dX0_sum_104 (by decide) ?_
            exact ih (i + 1) (by omega) (by omega) H locs ls G (by rw [e1, show mg_sv ax ay w i = _ from if_pos h3]; exact lv_sub hl [1, 0, 2, 3, 4] rfl)
set_option maxHeartbeats 4000000 in
set_option maxRecDepth 100000 in
/-- sum(group, which) -/
theorem kX_sum (l : Launch) (D : va_G) (a : Nat → Nat) (cI cZ : ClassId) (kk : Int32) (ax ay sx sy mx my mc mv mb qx qy qc : AR) (up lo : Int64) (sz : Nat) (n : Nat) (v w : Int32) (hn : n ≤ 24) : Met l yX0_sum (ws_ yX0_sum cX0_sum 5 (some .int)) (mg_R 0 0) (va_Pc [.ref (a 0), .int v, .int w] (mg_pre D (mg_ty cI cZ) (wX a cI cZ (nI n) kk ax ay sx sy mx my mc mv mb qx qy qc up lo) sz)) (va_Qi (fun (r : Int32) (u : Unit) => r = mg_sm ax ay mb v w n) (mg_bk D (mg_ty cI cZ) (fun (u : Unit) => wX a cI cZ (nI n) kk ax ay sx sy mx my mc mv mb qx qy qc up lo) (va_A (wX a cI cZ (nI n) kk ax ay sx sy mx my mc mv mb qx qy qc up lo) sz)) (va_A (wX a cI cZ (nI n) kk ax ay sx sy mx my mc mv mb qx qy qc up lo) sz)) 0 0 (va_A (wX a cI cZ (nI n) kk ax ay sx sy mx my mc mv mb qx qy qc up lo) sz) := by
  refine mg_meti (by decide) (Nat.le_of_ble_eq_true rfl) ?_
  intro p e s m below meth c A ls C hin G hl
  have C : mg_cx p s m _ meth c cX0_sum (some .int) 5 RX0 A := C
  obtain ⟨hx, hb, hr, hml, hown, hts, hlk, hA⟩ := id C
  have hl : lv_has ls 5 [(0, _), (1, _), (2, _)] := hl
  refine lv_iconst (v := (mg_sm ax ay mb v w 0)) hx hb dX0_sum_0 rfl ?_
  refine lv_istore_n (lv' := [(3, _), (0, _), (1, _), (2, _)]) hx hb dX0_sum_1 rfl hl (by decide) rfl (fun ls hl => ?_)
  refine lv_iconst (v := (nI 0)) hx hb dX0_sum_2 (by decide) ?_
  refine lv_istore (lv' := [(4, _), (3, _), (0, _), (1, _), (2, _)]) hx hb dX0_sum_3 hl (by decide) rfl (fun ls hl => ?_)
  refine lX_sum1 C hn (fun H locs ls G hl => ?_) 25 0 (by omega) (by omega) _ _ ls G (lv_sub hl [1, 0, 2, 3, 4] rfl)
  refine lv_iload_n hx hb dX0_sum_107 rfl (lv_at hl 0 rfl) ?_
  exact mg_iret C () G rfl dX0_sum_108
set_option maxHeartbeats 4000000 in
set_option maxRecDepth 100000 in
/-- add(x, y) -/
theorem kM_add (l : Launch) (D : va_G) (b : Nat → Nat) (cI cZ : ClassId) (kk : Int32) (ax ay mb sx sy mx my mc : AR) (sz : Nat) (n : Nat) (v w : Int32) (hn : n ≤ 24) : Met l yX1_add (ws_ yX1_add cX1_add 3 (some .int)) (mg_R 1 21) (va_Pc [.ref (b 0), .int v, .int w] (mg_pre D (mg_ty cI cZ) (wM b cI (nI n) kk ax ay mb sx sy mx my mc) sz)) (va_Qi (fun (r : Int32) (u : Bool) => (u = true ∧ (mg_in v ∧ mg_in w ∧ n < 24) ∧ r = nI (n + 1)) ∨ (u = false ∧ ¬ (mg_in v ∧ mg_in w ∧ n < 24) ∧ r = -1)) (mg_bk D (mg_ty cI cZ) (fun (u : Bool) => cond u (wM b cI (nI (n + 1)) kk (upd ax n v) (upd ay n w) (mg_rs 24 mb mg_om) sx sy (mg_rs 4 mx sx) (mg_rs 4 my sy) (mg_rs 4 mc mg_o1)) (wM b cI (nI n) kk ax ay mb sx sy mx my mc)) (va_A (wM b cI (nI n) kk ax ay mb sx sy mx my mc) sz)) (va_A (wM b cI (nI n) kk ax ay mb sx sy mx my mc) sz)) 0 0 (va_A (wM b cI (nI n) kk ax ay mb sx sy mx my mc) sz) := by
  refine mg_meti (by decide) (Nat.le_of_ble_eq_true rfl) ?_
  intro p e s m below meth c A ls C hin G hl
  have C : mg_cx p s m _ meth c cX1_add (some .int) 3 RX1 A := C
  obtain ⟨hx, hb, hr, hml, hown, hts, hlk, hA⟩ := id C
  have hl : lv_has ls 3 [(0, _), (1, _), (2, _)] := hl
  refine lv_iload_n hx hb dX1_add_0 rfl (lv_at hl 1 rfl) ?_
  refine iM_bad C G  ⟨Nat.le_of_ble_eq_true rfl, Nat.le_of_ble_eq_true rfl⟩ ⟨Nat.zero_le _, Nat.zero_le _⟩ hl.1 (Nat.le_of_ble_eq_true rfl) dX1_add_1 (fun r1 H locs hr1 G => ?_)
  refine lv_if_ne (tgt := 23) hx hb dX1_add_4 (by decide) (fun h1 => ?_) (fun h1 => ?_)
  · refine lv_iconst (v := (-1)) hx hb dX1_add_23 (by decide) ?_
    exact mg_iret C false G (Or.inr ⟨rfl, fun q => mg_c0 hr1 h1 q.1, rfl⟩) dX1_add_24
  · refine lv_iload_n hx hb dX1_add_7 rfl (lv_at hl 2 rfl) ?_
    refine iM_bad C G  ⟨Nat.le_of_ble_eq_true rfl, Nat.le_of_ble_eq_true rfl⟩ ⟨Nat.zero_le _, Nat.zero_le _⟩ hl.1 (Nat.le_of_ble_eq_true rfl) dX1_add_8 (fun r2 H locs hr2 G => ?_)
    refine lv_if_ne (tgt := 23) hx hb dX1_add_11 (by decide) (fun h2 => ?_) (fun h2 => ?_)
    · refine lv_iconst (v := (-1)) hx hb dX1_add_23 (by decide) ?_
      exact mg_iret C false G (Or.inr ⟨rfl, fun q => mg_c0 hr2 h2 q.2.1, rfl⟩) dX1_add_24
    · refine lv_aload_n hx hb dX1_add_14 rfl (lv_at hl 0 rfl) ?_
      refine gM_pt C G dX1_add_15 ?_
      refine lv_bipush (v := (nI 24)) hx hb dX1_add_18 (by decide) ?_
      refine mg_ine (tgt := 25) hx hb (by omega) (by omega) dX1_add_20 (by decide) (fun h3 => ?_) (fun h3 => ?_)
      · refine lv_aload_n hx hb dX1_add_25 rfl (lv_at hl 0 rfl) ?_
        refine gM_ax C G dX1_add_26 ?_
        refine lv_aload_n hx hb dX1_add_29 rfl (lv_at hl 0 rfl) ?_
        refine gM_pt C G dX1_add_30 ?_
        refine lv_iload_n hx hb dX1_add_33 rfl (lv_at hl 1 rfl) ?_
        refine sM_ax C G (by omega) dX1_add_34 (fun H locs G => ?_)
        refine lv_aload_n hx hb dX1_add_35 rfl (lv_at hl 0 rfl) ?_
        refine gM_ay C G dX1_add_36 ?_
        refine lv_aload_n hx hb dX1_add_39 rfl (lv_at hl 0 rfl) ?_
        refine gM_pt C G dX1_add_40 ?_
        refine lv_iload_n hx hb dX1_add_43 rfl (lv_at hl 2 rfl) ?_
        refine sM_ay C G (by omega) dX1_add_44 (fun H locs G => ?_)
        refine lv_aload_n hx hb dX1_add_45 rfl (lv_at hl 0 rfl) ?_
        refine lv_dup hx hb dX1_add_46 rfl ?_
        refine gM_pt C G dX1_add_47 ?_
        refine lv_iconst (v := (nI 1)) hx hb dX1_add_50 (by decide) ?_
        refine mg_add hx hb dX1_add_51 ?_
        refine pM_pt C G dX1_add_52 (fun H locs G => ?_)
        refine lv_aload_n hx hb dX1_add_55 rfl (lv_at hl 0 rfl) ?_
        refine iM_reset C G  ⟨Nat.le_of_ble_eq_true rfl, Nat.le_of_ble_eq_true rfl⟩ ⟨Nat.zero_le _, Nat.zero_le _⟩ hl.1 (Nat.le_of_ble_eq_true rfl) dX1_add_56 (fun H locs G => ?_)
        refine lv_aload_n hx hb dX1_add_59 rfl (lv_at hl 0 rfl) ?_
        refine gM_pt C G dX1_add_60 ?_
        exact mg_iret C true G (Or.inl ⟨rfl, ⟨mg_c1 hr1 h1, mg_c1 hr2 h2, by omega⟩, rfl⟩) dX1_add_63
      · refine lv_iconst (v := (-1)) hx hb dX1_add_23 (by decide) ?_
        exact mg_iret C false G (Or.inr ⟨rfl, fun q => absurd q.2.2 (by omega), rfl⟩) dX1_add_24
set_option maxHeartbeats 4000000 in
set_option maxRecDepth 100000 in
/-- drop, a loop -/
theorem lM_drop1 {b : Nat → Nat} {cI cZ : ClassId} {kk : Int32} {ax ay mb sx sy mx my mc : AR} {N lo0 : Nat} (C : mg_cx p s m args meth c cX1_drop ret 3 RX1 A) (hN : N < 24)
    (go : ∀ (H : Heap) (locs : List Loc) (ls : Array Slot), mg_wd D (mg_ty cI cZ) A s (wM b cI (nI N) kk (mg_sh lo0 N ax) (mg_sh lo0 N ay) mb sx sy mx my mc) H locs → lv_has ls 3 [(0, .ref (b 0))] → W p l e R s m args below meth c H locs cells slots Q (F0 m 68 ls [])) :
    ∀ (n i : Nat) , i ≤ N → N < i + n → lo0 ≤ i → ∀ (H : Heap) (locs : List Loc) (ls : Array Slot), mg_wd D (mg_ty cI cZ) A s (wM b cI (nI N) kk (mg_sh lo0 i ax) (mg_sh lo0 i ay) mb sx sy mx my mc) H locs → lv_has ls 3 [(2, .int (nI i)), (0, .ref (b 0))] → W p l e R s m args below meth c H locs cells slots Q (F0 m 26 ls []) := by
  obtain ⟨hx, hb, hr, hml, hown, hts, hlk, hA⟩ := id C
  intro n
  induction n with
  | zero => intro i h1 h2; exact absurd h2 (by omega)
  | succ n ih =>
    intro i hi hin hlo H locs ls G hl
    refine lv_iload_n hx hb dX1_drop_26 rfl (lv_at hl 0 rfl) ?_
    refine lv_aload_n hx hb dX1_drop_27 rfl (lv_at hl 1 rfl) ?_
    refine gM_pt C G dX1_drop_28 ?_
    refine mg_ige (tgt := 68) hx hb (by omega) (by omega) dX1_drop_31 (by decide) (fun h => ?_) (fun h => ?_)
    · obtain rfl : i = N := by omega
      exact go H locs ls G (lv_sub hl [1] rfl)
    · refine lv_aload_n hx hb dX1_drop_34 rfl (lv_at hl 1 rfl) ?_
      refine gM_ax C G dX1_drop_35 ?_
      refine lv_iload_n hx hb dX1_drop_38 rfl (lv_at hl 0 rfl) ?_
      refine lv_aload_n hx hb dX1_drop_39 rfl (lv_at hl 1 rfl) ?_
      refine gM_ax C G dX1_drop_40 ?_
      refine lv_iload_n hx hb dX1_drop_43 rfl (lv_at hl 0 rfl) ?_
      refine lv_iconst (v := (nI 1)) hx hb dX1_drop_44 (by decide) ?_
      refine mg_add hx hb dX1_drop_45 ?_
      refine lM_ax C G (by omega) dX1_drop_46 ?_
      refine sM_ax C G (by omega) dX1_drop_47 (fun H locs G => ?_)
      refine lv_aload_n hx hb dX1_drop_48 rfl (lv_at hl 1 rfl) ?_
      refine gM_ay C G dX1_drop_49 ?_
      refine lv_iload_n hx hb dX1_drop_52 rfl (lv_at hl 0 rfl) ?_
      refine lv_aload_n hx hb dX1_drop_53 rfl (lv_at hl 1 rfl) ?_
      refine gM_ay C G dX1_drop_54 ?_
      refine lv_iload_n hx hb dX1_drop_57 rfl (lv_at hl 0 rfl) ?_
      refine lv_iconst (v := (nI 1)) hx hb dX1_drop_58 (by decide) ?_
      refine mg_add hx hb dX1_drop_59 ?_
      refine lM_ay C G (by omega) dX1_drop_60 ?_
      refine sM_ay C G (by omega) dX1_drop_61 (fun H locs G => ?_)
      refine lv_iinc (lv' := [(2, _), (0, _)]) hx hb dX1_drop_62 hl (k := 0) rfl (mg_inc _) (by decide) rfl (fun ls hl => ?_)
      refine lv_goto (tgt := 26) hx hb dX1_drop_65 (by decide) ?_
      rw [mg_sh_s ax hlo, mg_sh_s ay hlo] at G
      exact ih (i + 1) (by omega) (by omega) (by omega) H locs ls G hl
set_option maxHeartbeats 4000000 in
set_option maxRecDepth 100000 in
/-- drop(number) -/
theorem kM_drop (l : Launch) (D : va_G) (b : Nat → Nat) (cI cZ : ClassId) (kk : Int32) (ax ay mb sx sy mx my mc : AR) (sz : Nat) (n : Nat) (v : Int32) (hn : n ≤ 24) : Met l yX1_drop (ws_ yX1_drop cX1_drop 3 (some .int)) (mg_R 1 21) (va_Pc [.ref (b 0), .int v] (mg_pre D (mg_ty cI cZ) (wM b cI (nI n) kk ax ay mb sx sy mx my mc) sz)) (va_Qi (fun (r : Int32) (u : Bool) => (u = true ∧ (¬ v < 0 ∧ v < nI n) ∧ r = nI (n - 1)) ∨ (u = false ∧ ¬ (¬ v < 0 ∧ v < nI n) ∧ r = -1)) (mg_bk D (mg_ty cI cZ) (fun (u : Bool) => cond u (wM b cI (nI (n - 1)) kk (mg_sh v.toNatClampNeg (n - 1) ax) (mg_sh v.toNatClampNeg (n - 1) ay) (mg_rs 24 mb mg_om) sx sy (mg_rs 4 mx sx) (mg_rs 4 my sy) (mg_rs 4 mc mg_o1)) (wM b cI (nI n) kk ax ay mb sx sy mx my mc)) (va_A (wM b cI (nI n) kk ax ay mb sx sy mx my mc) sz)) (va_A (wM b cI (nI n) kk ax ay mb sx sy mx my mc) sz)) 0 0 (va_A (wM b cI (nI n) kk ax ay mb sx sy mx my mc) sz) := by
  refine mg_meti (by decide) (Nat.le_of_ble_eq_true rfl) ?_
  intro p e s m below meth c A ls C hin G hl
  have C : mg_cx p s m _ meth c cX1_drop (some .int) 3 RX1 A := C
  obtain ⟨hx, hb, hr, hml, hown, hts, hlk, hA⟩ := id C
  have hl : lv_has ls 3 [(0, _), (1, _)] := hl
  refine lv_iload_n hx hb dX1_drop_0 rfl (lv_at hl 1 rfl) ?_
  refine lv_if_lt (tgt := 12) hx hb dX1_drop_1 (by decide) (fun h1 => ?_) (fun h1 => ?_)
  · refine lv_iconst (v := (-1)) hx hb dX1_drop_12 (by decide) ?_
    exact mg_iret C false G (Or.inr ⟨rfl, fun q => q.1 h1, rfl⟩) dX1_drop_13
  · refine lv_iload_n hx hb dX1_drop_4 rfl (lv_at hl 1 rfl) ?_
    refine lv_aload_n hx hb dX1_drop_5 rfl (lv_at hl 0 rfl) ?_
    refine gM_pt C G dX1_drop_6 ?_
    refine lv_icmp_lt (tgt := 14) hx hb dX1_drop_9 (by decide) (fun h2 => ?_) (fun h2 => ?_)
    · obtain ⟨j, hj, rfl⟩ := nI_of h1
      have hjn : j < n := (nI_ltI hj (by omega)).mp h2
      refine lv_aload_n hx hb dX1_drop_14 rfl (lv_at hl 0 rfl) ?_
      refine lv_dup hx hb dX1_drop_15 rfl ?_
      refine gM_pt C G dX1_drop_16 ?_
      refine lv_iconst (v := (nI 1)) hx hb dX1_drop_19 (by decide) ?_
      refine mg_sub hx hb (by omega) dX1_drop_20 ?_
      refine pM_pt C G dX1_drop_21 (fun H locs G => ?_)
      refine lv_iload_n hx hb dX1_drop_24 rfl (lv_at hl 1 rfl) ?_
      refine lv_istore_n (lv' := [(2, _), (0, _), (1, _)]) hx hb dX1_drop_25 rfl hl (by decide) rfl (fun ls hl => ?_)
      have G : mg_wd D (mg_ty cI cZ) A s (wM b cI (nI (n - 1)) kk (mg_sh j j ax) (mg_sh j j ay) mb sx sy mx my mc) H locs := by rw [mg_sh_0, mg_sh_0]; exact G
      refine lM_drop1 C (by omega) (fun H locs ls G hl => ?_) 25 j (by omega) (by omega) (Nat.le_refl j) H locs ls G (lv_sub hl [0, 1] rfl)
      refine lv_aload_n hx hb dX1_drop_68 rfl (lv_at hl 0 rfl) ?_
      refine iM_reset C G  ⟨Nat.le_of_ble_eq_true rfl, Nat.le_of_ble_eq_true rfl⟩ ⟨Nat.zero_le _, Nat.zero_le _⟩ hl.1 (Nat.le_of_ble_eq_true rfl) dX1_drop_69 (fun H locs G => ?_)
      refine lv_aload_n hx hb dX1_drop_72 rfl (lv_at hl 0 rfl) ?_
      refine gM_pt C G dX1_drop_73 ?_
      exact mg_iret C true (by rw [nI_clamp hj]; exact G) (Or.inl ⟨rfl, ⟨h1, h2⟩, rfl⟩) dX1_drop_76
    · refine lv_iconst (v := (-1)) hx hb dX1_drop_12 (by decide) ?_
      exact mg_iret C false G (Or.inr ⟨rfl, fun q => h2 q.2, rfl⟩) dX1_drop_13
set_option maxHeartbeats 4000000 in
set_option maxRecDepth 100000 in
/-- seed(group, x, y) -/
theorem kM_seed (l : Launch) (D : va_G) (b : Nat → Nat) (cI cZ : ClassId) (pt kk : Int32) (ax ay mb sx sy mx my mc : AR) (sz : Nat) (v x1 y1 : Int32)  : Met l yX1_seed (ws_ yX1_seed cX1_seed 4 (some .int)) (mg_R 1 21) (va_Pc [.ref (b 0), .int v, .int x1, .int y1] (mg_pre D (mg_ty cI cZ) (wM b cI pt kk ax ay mb sx sy mx my mc) sz)) (va_Qi (fun (r : Int32) (u : Bool) => (u = true ∧ ((¬ v < 0 ∧ ¬ 3 < v) ∧ mg_in x1 ∧ mg_in y1) ∧ r = 0) ∨ (u = false ∧ ¬ ((¬ v < 0 ∧ ¬ 3 < v) ∧ mg_in x1 ∧ mg_in y1) ∧ r = -1)) (mg_bk D (mg_ty cI cZ) (fun (u : Bool) => cond u (wM b cI pt kk ax ay (mg_rs 24 mb mg_om) (upd sx v.toNatClampNeg x1) (upd sy v.toNatClampNeg y1) (mg_rs 4 mx (upd sx v.toNatClampNeg x1)) (mg_rs 4 my (upd sy v.toNatClampNeg y1)) (mg_rs 4 mc mg_o1)) (wM b cI pt kk ax ay mb sx sy mx my mc)) (va_A (wM b cI pt kk ax ay mb sx sy mx my mc) sz)) (va_A (wM b cI pt kk ax ay mb sx sy mx my mc) sz)) 0 0 (va_A (wM b cI pt kk ax ay mb sx sy mx my mc) sz) := by
  refine mg_meti (by decide) (Nat.le_of_ble_eq_true rfl) ?_
  intro p e s m below meth c A ls C hin G hl
  have C : mg_cx p s m _ meth c cX1_seed (some .int) 4 RX1 A := C
  obtain ⟨hx, hb, hr, hml, hown, hts, hlk, hA⟩ := id C
  have hl : lv_has ls 4 [(0, _), (1, _), (2, _), (3, _)] := hl
  refine lv_iload_n hx hb dX1_seed_0 rfl (lv_at hl 1 rfl) ?_
  refine lv_if_lt (tgt := 23) hx hb dX1_seed_1 (by decide) (fun h1 => ?_) (fun h1 => ?_)
  · refine lv_iconst (v := (-1)) hx hb dX1_seed_23 (by decide) ?_
    exact mg_iret C false G (Or.inr ⟨rfl, fun q => q.1.1 h1, rfl⟩) dX1_seed_24
  · refine lv_iload_n hx hb dX1_seed_4 rfl (lv_at hl 1 rfl) ?_
    refine lv_iconst (v := (3)) hx hb dX1_seed_5 (by decide) ?_
    refine lv_icmp_gt (tgt := 23) hx hb dX1_seed_6 (by decide) (fun h2 => ?_) (fun h2 => ?_)
    · refine lv_iconst (v := (-1)) hx hb dX1_seed_23 (by decide) ?_
      exact mg_iret C false G (Or.inr ⟨rfl, fun q => q.1.2 h2, rfl⟩) dX1_seed_24
    · refine lv_iload_n hx hb dX1_seed_9 rfl (lv_at hl 2 rfl) ?_
      refine iM_bad C G  ⟨Nat.le_of_ble_eq_true rfl, Nat.le_of_ble_eq_true rfl⟩ ⟨Nat.zero_le _, Nat.zero_le _⟩ hl.1 (Nat.le_of_ble_eq_true rfl) dX1_seed_10 (fun r1 H locs hr1 G => ?_)
      refine lv_if_ne (tgt := 23) hx hb dX1_seed_13 (by decide) (fun h3 => ?_) (fun h3 => ?_)
      · refine lv_iconst (v := (-1)) hx hb dX1_seed_23 (by decide) ?_
        exact mg_iret C false G (Or.inr ⟨rfl, fun q => mg_c0 hr1 h3 q.2.1, rfl⟩) dX1_seed_24
      · refine lv_iload_n hx hb dX1_seed_16 rfl (lv_at hl 3 rfl) ?_
        refine iM_bad C G  ⟨Nat.le_of_ble_eq_true rfl, Nat.le_of_ble_eq_true rfl⟩ ⟨Nat.zero_le _, Nat.zero_le _⟩ hl.1 (Nat.le_of_ble_eq_true rfl) dX1_seed_17 (fun r2 H locs hr2 G => ?_)
        refine lv_if_eq (tgt := 25) hx hb dX1_seed_20 (by decide) (fun h4 => ?_) (fun h4 => ?_)
        · obtain ⟨j, hj, rfl⟩ := nI_of h1
          have hj4 : j < 4 := Nat.lt_of_not_le (fun q => h2 ((nI_ltI (a := 3) (by decide) hj).mpr q))
          refine lv_aload_n hx hb dX1_seed_25 rfl (lv_at hl 0 rfl) ?_
          refine gM_sx C G dX1_seed_26 ?_
          refine lv_iload_n hx hb dX1_seed_29 rfl (lv_at hl 1 rfl) ?_
          refine lv_iload_n hx hb dX1_seed_30 rfl (lv_at hl 2 rfl) ?_
          refine sM_sx C G (by omega) dX1_seed_31 (fun H locs G => ?_)
          refine lv_aload_n hx hb dX1_seed_32 rfl (lv_at hl 0 rfl) ?_
          refine gM_sy C G dX1_seed_33 ?_
          refine lv_iload_n hx hb dX1_seed_36 rfl (lv_at hl 1 rfl) ?_
          refine lv_iload_n hx hb dX1_seed_37 rfl (lv_at hl 3 rfl) ?_
          refine sM_sy C G (by omega) dX1_seed_38 (fun H locs G => ?_)
          refine lv_aload_n hx hb dX1_seed_39 rfl (lv_at hl 0 rfl) ?_
          refine iM_reset C G  ⟨Nat.le_of_ble_eq_true rfl, Nat.le_of_ble_eq_true rfl⟩ ⟨Nat.zero_le _, Nat.zero_le _⟩ hl.1 (Nat.le_of_ble_eq_true rfl) dX1_seed_40 (fun H locs G => ?_)
          refine lv_iconst (v := (0)) hx hb dX1_seed_43 (by decide) ?_
          exact mg_iret C true (by rw [nI_clamp hj]; exact G) (Or.inl ⟨rfl, ⟨⟨h1, h2⟩, mg_c1 hr1 h3, mg_c1 hr2 h4⟩, rfl⟩) dX1_seed_44
        · refine lv_iconst (v := (-1)) hx hb dX1_seed_23 (by decide) ?_
          exact mg_iret C false G (Or.inr ⟨rfl, fun q => mg_c0 hr2 h4 q.2.2, rfl⟩) dX1_seed_24
set_option maxHeartbeats 4000000 in
set_option maxRecDepth 100000 in
/-- groups(k) -/
theorem kM_groups (l : Launch) (D : va_G) (b : Nat → Nat) (cI cZ : ClassId) (pt kk : Int32) (ax ay mb sx sy mx my mc : AR) (sz : Nat) (v : Int32)  : Met l yX1_groups (ws_ yX1_groups cX1_groups 2 none) (mg_R 1 21) (va_Pc [.ref (b 0), .int v] (mg_pre D (mg_ty cI cZ) (wM b cI pt kk ax ay mb sx sy mx my mc) sz)) (va_Qv (fun (u : Unit) => True) (mg_bk D (mg_ty cI cZ) (fun (u : Unit) => wM b cI pt (mg_kf v) ax ay (mg_rs 24 mb mg_om) sx sy (mg_rs 4 mx sx) (mg_rs 4 my sy) (mg_rs 4 mc mg_o1)) (va_A (wM b cI pt kk ax ay mb sx sy mx my mc) sz)) (va_A (wM b cI pt kk ax ay mb sx sy mx my mc) sz)) 0 0 (va_A (wM b cI pt kk ax ay mb sx sy mx my mc) sz) := by
  refine mg_metv (by decide) (Nat.le_of_ble_eq_true rfl) ?_
  intro p e s m below meth c A ls C hin G hl
  have C : mg_cx p s m _ meth c cX1_groups none 2 RX1 A := C
  obtain ⟨hx, hb, hr, hml, hown, hts, hlk, hA⟩ := id C
  have hl : lv_has ls 2 [(0, _), (1, _)] := hl
  refine lv_aload_n hx hb dX1_groups_0 rfl (lv_at hl 0 rfl) ?_
  refine lv_iload_n hx hb dX1_groups_1 rfl (lv_at hl 1 rfl) ?_
  refine lv_iconst (v := (1)) hx hb dX1_groups_2 (by decide) ?_
  refine lv_icmp_ge (tgt := 10) hx hb dX1_groups_3 (by decide) (fun h1 => ?_) (fun h1 => ?_)
  · refine lv_iload_n hx hb dX1_groups_10 rfl (lv_at hl 1 rfl) ?_
    refine lv_iconst (v := (4)) hx hb dX1_groups_11 (by decide) ?_
    refine lv_icmp_le (tgt := 19) hx hb dX1_groups_12 (by decide) (fun h2 => ?_) (fun h2 => ?_)
    · refine lv_iload_n hx hb dX1_groups_19 rfl (lv_at hl 1 rfl) ?_
      refine pM_kk C G dX1_groups_20 (fun H locs G => ?_)
      refine lv_aload_n hx hb dX1_groups_23 rfl (lv_at hl 0 rfl) ?_
      refine iM_reset C G  ⟨Nat.le_of_ble_eq_true rfl, Nat.le_of_ble_eq_true rfl⟩ ⟨Nat.zero_le _, Nat.zero_le _⟩ hl.1 (Nat.le_of_ble_eq_true rfl) dX1_groups_24 (fun H locs G => ?_)
      exact mg_vret C () (by rw [show mg_kf v = _ from (if_pos h1).trans (if_pos h2)]; exact G) trivial dX1_groups_27
    · refine lv_iconst (v := (4)) hx hb dX1_groups_15 (by decide) ?_
      refine lv_goto (tgt := 20) hx hb dX1_groups_16 (by decide) ?_
      refine pM_kk C G dX1_groups_20 (fun H locs G => ?_)
      refine lv_aload_n hx hb dX1_groups_23 rfl (lv_at hl 0 rfl) ?_
      refine iM_reset C G  ⟨Nat.le_of_ble_eq_true rfl, Nat.le_of_ble_eq_true rfl⟩ ⟨Nat.zero_le _, Nat.zero_le _⟩ hl.1 (Nat.le_of_ble_eq_true rfl) dX1_groups_24 (fun H locs G => ?_)
      exact mg_vret C () (by rw [show mg_kf v = _ from (if_pos h1).trans (if_neg h2)]; exact G) trivial dX1_groups_27
  · refine lv_iconst (v := (1)) hx hb dX1_groups_6 (by decide) ?_
    refine lv_goto (tgt := 20) hx hb dX1_groups_7 (by decide) ?_
    refine pM_kk C G dX1_groups_20 (fun H locs G => ?_)
    refine lv_aload_n hx hb dX1_groups_23 rfl (lv_at hl 0 rfl) ?_
    refine iM_reset C G  ⟨Nat.le_of_ble_eq_true rfl, Nat.le_of_ble_eq_true rfl⟩ ⟨Nat.zero_le _, Nat.zero_le _⟩ hl.1 (Nat.le_of_ble_eq_true rfl) dX1_groups_24 (fun H locs G => ?_)
    exact mg_vret C () (by rw [show mg_kf v = _ from if_neg h1]; exact G) trivial dX1_groups_27
set_option maxHeartbeats 4000000 in
set_option maxRecDepth 100000 in
/-- group(number) -/
theorem kM_group (l : Launch) (D : va_G) (b : Nat → Nat) (cI cZ : ClassId) (kk : Int32) (ax ay mb sx sy mx my mc : AR) (sz : Nat) (n : Nat) (v : Int32) (hn : n ≤ 24) : Met l yX1_group (ws_ yX1_group cX1_group 2 (some .int)) (mg_R 0 0) (va_Pc [.ref (b 0), .int v] (mg_pre D (mg_ty cI cZ) (wM b cI (nI n) kk ax ay mb sx sy mx my mc) sz)) (va_Qi (fun (r : Int32) (u : Unit) => r = if ¬ v < 0 ∧ v < nI n then mb v.toNatClampNeg else -1) (mg_bk D (mg_ty cI cZ) (fun (u : Unit) => wM b cI (nI n) kk ax ay mb sx sy mx my mc) (va_A (wM b cI (nI n) kk ax ay mb sx sy mx my mc) sz)) (va_A (wM b cI (nI n) kk ax ay mb sx sy mx my mc) sz)) 0 0 (va_A (wM b cI (nI n) kk ax ay mb sx sy mx my mc) sz) := by
  refine mg_meti (by decide) (Nat.le_of_ble_eq_true rfl) ?_
  intro p e s m below meth c A ls C hin G hl
  have C : mg_cx p s m _ meth c cX1_group (some .int) 2 RX1 A := C
  obtain ⟨hx, hb, hr, hml, hown, hts, hlk, hA⟩ := id C
  have hl : lv_has ls 2 [(0, _), (1, _)] := hl
  refine lv_iload_n hx hb dX1_group_0 rfl (lv_at hl 1 rfl) ?_
  refine lv_if_lt (tgt := 12) hx hb dX1_group_1 (by decide) (fun h1 => ?_) (fun h1 => ?_)
  · refine lv_iconst (v := (-1)) hx hb dX1_group_12 (by decide) ?_
    refine lv_goto (tgt := 22) hx hb dX1_group_13 (by decide) ?_
    exact mg_iret C () G (if_neg (fun q => q.1 h1)).symm dX1_group_22
  · refine lv_iload_n hx hb dX1_group_4 rfl (lv_at hl 1 rfl) ?_
    refine lv_aload_n hx hb dX1_group_5 rfl (lv_at hl 0 rfl) ?_
    refine gM_pt C G dX1_group_6 ?_
    refine lv_icmp_lt (tgt := 16) hx hb dX1_group_9 (by decide) (fun h2 => ?_) (fun h2 => ?_)
    · obtain ⟨j, hj, rfl⟩ := nI_of h1
      have hjn : j < n := (nI_ltI hj (by omega)).mp h2
      refine lv_aload_n hx hb dX1_group_16 rfl (lv_at hl 0 rfl) ?_
      refine gM_mb C G dX1_group_17 ?_
      refine lv_iload_n hx hb dX1_group_20 rfl (lv_at hl 1 rfl) ?_
      refine lM_mb C G (by omega) dX1_group_21 ?_
      exact mg_iret C () G (by rw [if_pos ⟨h1, h2⟩, nI_clamp hj]) dX1_group_22
    · refine lv_iconst (v := (-1)) hx hb dX1_group_12 (by decide) ?_
      refine lv_goto (tgt := 22) hx hb dX1_group_13 (by decide) ?_
      exact mg_iret C () G (if_neg (fun q => h2 q.2)).symm dX1_group_22
set_option maxHeartbeats 4000000 in
set_option maxRecDepth 100000 in
/-- size, a loop -/
theorem lM_size1 {b : Nat → Nat} {cI cZ : ClassId} {kk : Int32} {ax ay mb sx sy mx my mc : AR} {N : Nat} {v : Int32} (C : mg_cx p s m args meth c cX1_size ret 4 RX1 A) (hN : N ≤ 24)
    (go : ∀ (H : Heap) (locs : List Loc) (ls : Array Slot), mg_wd D (mg_ty cI cZ) A s (wM b cI (nI N) kk ax ay mb sx sy mx my mc) H locs → lv_has ls 4 [(2, .int (mg_sz mb v N))] → W p l e R s m args below meth c H locs cells slots Q (F0 m 35 ls [])) :
    ∀ (n i : Nat) , i ≤ N → N < i + n → ∀ (H : Heap) (locs : List Loc) (ls : Array Slot), mg_wd D (mg_ty cI cZ) A s (wM b cI (nI N) kk ax ay mb sx sy mx my mc) H locs → lv_has ls 4 [(2, .int (mg_sz mb v i)), (3, .int (nI i)), (0, .ref (b 0)), (1, .int v)] → W p l e R s m args below meth c H locs cells slots Q (F0 m 4 ls []) := by
  obtain ⟨hx, hb, hr, hml, hown, hts, hlk, hA⟩ := id C
  intro n
  induction n with
  | zero => intro i h1 h2; exact absurd h2 (by omega)
  | succ n ih =>
    intro i hi hin  H locs ls G hl
    refine lv_iload_n hx hb dX1_size_4 rfl (lv_at hl 1 rfl) ?_
    refine lv_aload_n hx hb dX1_size_5 rfl (lv_at hl 2 rfl) ?_
    refine gM_pt C G dX1_size_6 ?_
    refine mg_ige (tgt := 35) hx hb (by omega) (by omega) dX1_size_9 (by decide) (fun h => ?_) (fun h => ?_)
    · obtain rfl : i = N := by omega
      exact go H locs ls G (lv_sub hl [0] rfl)
    · refine lv_iload_n hx hb dX1_size_12 rfl (lv_at hl 3 rfl) ?_
      refine lv_if_lt (tgt := 29) hx hb dX1_size_13 (by decide) (fun h1 => ?_) (fun h1 => ?_)
      · refine lv_iinc (lv' := [(3, _), (2, _), (0, _), (1, _)]) hx hb dX1_size_29 hl (k := 1) rfl (mg_inc _) (by decide) rfl (fun ls hl => ?_)
        refine lv_goto (tgt := 4) hx hb dX1_size_32 (by decide) ?_
        exact ih (i + 1) (by omega) (by omega) H locs ls G (by rw [show mg_sz mb v (i + 1) = _ from if_neg (fun q => q.1 h1)]; exact lv_sub hl [1, 0, 2, 3] rfl)
      · refine lv_aload_n hx hb dX1_size_16 rfl (lv_at hl 2 rfl) ?_
        refine gM_mb C G dX1_size_17 ?_
        refine lv_iload_n hx hb dX1_size_20 rfl (lv_at hl 1 rfl) ?_
        refine lM_mb C G (by omega) dX1_size_21 ?_
        refine lv_iload_n hx hb dX1_size_22 rfl (lv_at hl 3 rfl) ?_
        refine lv_icmp_ne (tgt := 29) hx hb dX1_size_23 (by decide) (fun h2 => ?_) (fun h2 => ?_)
        · refine lv_iinc (lv' := [(3, _), (2, _), (0, _), (1, _)]) hx hb dX1_size_29 hl (k := 1) rfl (mg_inc _) (by decide) rfl (fun ls hl => ?_)
          refine lv_goto (tgt := 4) hx hb dX1_size_32 (by decide) ?_
          exact ih (i + 1) (by omega) (by omega) H locs ls G (by rw [show mg_sz mb v (i + 1) = _ from if_neg (fun q => h2 q.2)]; exact lv_sub hl [1, 0, 2, 3] rfl)
        · refine lv_iinc (lv' := [(2, _), (3, _), (0, _), (1, _)]) hx hb dX1_size_26 hl (k := 0) rfl (rfl) (by decide) rfl (fun ls hl => ?_)
          refine lv_iinc (lv' := [(3, _), (2, _), (0, _), (1, _)]) hx hb dX1_size_29 hl (k := 1) rfl (mg_inc _) (by decide) rfl (fun ls hl => ?_)
          refine lv_goto (tgt := 4) hx hb dX1_size_32 (by decide) ?_
          exact ih (i + 1) (by omega) (by omega) H locs ls G (by rw [show mg_sz mb v (i + 1) = _ from if_pos ⟨h1, h2⟩]; exact lv_sub hl [1, 0, 2, 3] rfl)
set_option maxHeartbeats 4000000 in
set_option maxRecDepth 100000 in
/-- size(group) -/
theorem kM_size (l : Launch) (D : va_G) (b : Nat → Nat) (cI cZ : ClassId) (kk : Int32) (ax ay mb sx sy mx my mc : AR) (sz : Nat) (n : Nat) (v : Int32) (hn : n ≤ 24) : Met l yX1_size (ws_ yX1_size cX1_size 4 (some .int)) (mg_R 0 0) (va_Pc [.ref (b 0), .int v] (mg_pre D (mg_ty cI cZ) (wM b cI (nI n) kk ax ay mb sx sy mx my mc) sz)) (va_Qi (fun (r : Int32) (u : Unit) => r = mg_sz mb v n) (mg_bk D (mg_ty cI cZ) (fun (u : Unit) => wM b cI (nI n) kk ax ay mb sx sy mx my mc) (va_A (wM b cI (nI n) kk ax ay mb sx sy mx my mc) sz)) (va_A (wM b cI (nI n) kk ax ay mb sx sy mx my mc) sz)) 0 0 (va_A (wM b cI (nI n) kk ax ay mb sx sy mx my mc) sz) := by
  refine mg_meti (by decide) (Nat.le_of_ble_eq_true rfl) ?_
  intro p e s m below meth c A ls C hin G hl
  have C : mg_cx p s m _ meth c cX1_size (some .int) 4 RX1 A := C
  obtain ⟨hx, hb, hr, hml, hown, hts, hlk, hA⟩ := id C
  have hl : lv_has ls 4 [(0, _), (1, _)] := hl
  refine lv_iconst (v := (mg_sz mb v 0)) hx hb dX1_size_0 rfl ?_
  refine lv_istore_n (lv' := [(2, _), (0, _), (1, _)]) hx hb dX1_size_1 rfl hl (by decide) rfl (fun ls hl => ?_)
  refine lv_iconst (v := (nI 0)) hx hb dX1_size_2 (by decide) ?_
  refine lv_istore_n (lv' := [(3, _), (2, _), (0, _), (1, _)]) hx hb dX1_size_3 rfl hl (by decide) rfl (fun ls hl => ?_)
  refine lM_size1 C hn (fun H locs ls G hl => ?_) 25 0 (by omega) (by omega) _ _ ls G (lv_sub hl [1, 0, 2, 3] rfl)
  refine lv_iload_n hx hb dX1_size_35 rfl (lv_at hl 0 rfl) ?_
  exact mg_iret C () G rfl dX1_size_36
theorem iM_size {b : Nat → Nat} {cI cZ : ClassId} {kk : Int32} {ax ay mb sx sy mx my mc : AR} {n : Nat} {v : Int32} (C : mg_cx p s m args meth c cc ret nL RX1 A) (G : mg_wd D (mg_ty cI cZ) A s (wM b cI (nI n) kk ax ay mb sx sy mx my mc) H locs) (hn : n ≤ 24) (hR : 0 + 1 ≤ R.frames ∧ 8 + (4 + 11) + 0 ≤ R.locals) (hf : cells ≤ R.cells ∧ slots ≤ R.slots) (hsz : ls.size = nL) (hrm : (rest.map fun v => v.category).sum ≤ 8) (hdg : decode cc pc = .ok (.invokevirtual 60, 3))
    (go : ∀ (r : Int32) (H1 : Heap) (locs1 : List Loc), (r = mg_sz mb v n) → mg_wd D (mg_ty cI cZ) A s (wM b cI (nI n) kk ax ay mb sx sy mx my mc) H1 locs1 → W p l e R s m args below meth c H1 locs1 cells slots Q (F0 m (pc + 3) ls (.int r :: rest))) : W p l e R s m args below meth c H locs cells slots Q (F0 m pc ls (.int v :: .ref (b 0) :: rest)) := by
  have hts := C.2.2.2.2.2.1
  exact mg_ci (mg_runV C G (kM_size l D b cI cZ kk ax ay mb sx sy mx my mc H.size n v hn) (cwV 1 hts (lw_V q222 q223 q224 q11 q225) rfl rfl rfl (by decide +kernel) hR) (ci := 1) rfl rfl rfl rfl hsz rfl hrm hdg hf) G.2.2.2 (mg_free C G) (fun r u H1 locs1 hp B => go r H1 locs1 hp (mg_whole C G B))
set_option maxHeartbeats 4000000 in
set_option maxRecDepth 100000 in
/-- sum, a loop -/
theorem lM_sum1 {b : Nat → Nat} {cI cZ : ClassId} {kk : Int32} {ax ay mb sx sy mx my mc : AR} {N : Nat} {v w : Int32} (C : mg_cx p s m args meth c cX1_sum ret 5 RX1 A) (hN : N ≤ 24)
    (go : ∀ (H : Heap) (locs : List Loc) (ls : Array Slot), mg_wd D (mg_ty cI cZ) A s (wM b cI (nI N) kk ax ay mb sx sy mx my mc) H locs → lv_has ls 5 [(3, .int (mg_sm ax ay mb v w N))] → W p l e R s m args below meth c H locs cells slots Q (F0 m 107 ls [])) :
    ∀ (n i : Nat) , i ≤ N → N < i + n → ∀ (H : Heap) (locs : List Loc) (ls : Array Slot), mg_wd D (mg_ty cI cZ) A s (wM b cI (nI N) kk ax ay mb sx sy mx my mc) H locs → lv_has ls 5 [(3, .int (mg_sm ax ay mb v w i)), (4, .int (nI i)), (0, .ref (b 0)), (1, .int v), (2, .int w)] → W p l e R s m args below meth c H locs cells slots Q (F0 m 5 ls []) := by
  obtain ⟨hx, hb, hr, hml, hown, hts, hlk, hA⟩ := id C
  intro n
  induction n with
  | zero => intro i h1 h2; exact absurd h2 (by omega)
  | succ n ih =>
    intro i hi hin  H locs ls G hl
    refine lv_iload hx hb dX1_sum_5 (lv_at hl 1 rfl) ?_
    refine lv_aload_n hx hb dX1_sum_7 rfl (lv_at hl 2 rfl) ?_
    refine gM_pt C G dX1_sum_8 ?_
    refine mg_ige (tgt := 107) hx hb (by omega) (by omega) dX1_sum_11 (by decide) (fun h => ?_) (fun h => ?_)
    · obtain rfl : i = N := by omega
      exact go H locs ls G (lv_sub hl [0] rfl)
    · refine lv_iload_n hx hb dX1_sum_14 rfl (lv_at hl 3 rfl) ?_
      refine lv_if_lt (tgt := 101) hx hb dX1_sum_15 (by decide) (fun h1 => ?_) (fun h1 => ?_)
      · refine lv_iinc (lv' := [(4, _), (3, _), (0, _), (1, _), (2, _)]) hx hb dX1_sum_101 hl (k := 1) rfl (mg_inc _) (by decide) rfl (fun ls hl => ?_)
        refine lv_goto (tgt := 5) hx hb dX1_sum_104 (by decide) ?_
        exact ih (i + 1) (by omega) (by omega) H locs ls G (by rw [show mg_sm ax ay mb v w (i + 1) = _ from if_neg (fun q => q.1 h1)]; exact lv_sub hl [1, 0, 2, 3, 4] rfl)
      · refine lv_aload_n hx hb dX1_sum_18 rfl (lv_at hl 2 rfl) ?_
        refine gM_mb C G dX1_sum_19 ?_
        refine lv_iload hx hb dX1_sum_22 (lv_at hl 1 rfl) ?_
        refine lM_mb C G (by omega) dX1_sum_24 ?_
        refine lv_iload_n hx hb dX1_sum_25 rfl (lv_at hl 3 rfl) ?_
        refine lv_icmp_ne (tgt := 101) hx hb dX1_sum_26 (by decide) (fun h2 => ?_) (fun h2 => ?_)
        · refine lv_iinc (lv' := [(4, _), (3, _), (0, _), (1, _), (2, _)]) hx hb dX1_sum_101 hl (k := 1) rfl (mg_inc _) (by decide) rfl (fun ls hl => ?_)
          refine lv_goto (tgt := 5) hx hb dX1_sum_104 (by decide) ?_
          exact ih (i + 1) (by omega) (by omega) H locs ls G (by rw [show mg_sm ax ay mb v w (i + 1) = _ from if_neg (fun q => h2 q.2)]; exact lv_sub hl [1, 0, 2, 3, 4] rfl)
        · have e1 : mg_sm ax ay mb v w (i + 1) = mg_sm ax ay mb v w i + mg_sv ax ay w i := if_pos ⟨h1, h2⟩
          refine lv_iload_n hx hb dX1_sum_29 rfl (lv_at hl 0 rfl) ?_
          refine lv_iload_n hx hb dX1_sum_30 rfl (lv_at hl 4 rfl) ?_
          refine lv_if_ne (tgt := 44) hx hb dX1_sum_31 (by decide) (fun h3 => ?_) (fun h3 => ?_)
          · refine lv_iload_n hx hb dX1_sum_44 rfl (lv_at hl 4 rfl) ?_
            refine lv_iconst (v := (1)) hx hb dX1_sum_45 (by decide) ?_
            refine lv_icmp_ne (tgt := 59) hx hb dX1_sum_46 (by decide) (fun h4 => ?_) (fun h4 => ?_)
            · refine lv_iload_n hx hb dX1_sum_59 rfl (lv_at hl 4 rfl) ?_
              refine lv_iconst (v := (2)) hx hb dX1_sum_60 (by decide) ?_
              refine lv_icmp_ne (tgt := 98) hx hb dX1_sum_61 (by decide) (fun h5 => ?_) (fun h5 => ?_)
              · refine lv_iconst (v := (0)) hx hb dX1_sum_98 (by decide) ?_
                refine lv_iadd hx hb dX1_sum_99 ?_
                refine lv_istore_n (lv' := [(3, _), (4, _), (0, _), (1, _), (2, _)]) hx hb dX1_sum_100 rfl hl (by decide) rfl (fun ls hl => ?_)
                refine lv_iinc (lv' := [(4, _), (3, _), (0, _), (1, _), (2, _)]) hx hb dX1_sum_101 hl (k := 1) rfl (mg_inc _) (by decide) rfl (fun ls hl => ?_)
                refine lv_goto (tgt := 5) hx hb dX1_sum_104 (by decide) ?_
                exact ih (i + 1) (by omega) (by omega) H locs ls G (by rw [e1, show mg_sv ax ay w i = _ from (if_neg h3).trans ((if_neg h4).trans (if_neg h5))]; exact lv_sub hl [1, 0, 2, 3, 4] rfl)
              · refine lv_aload_n hx hb dX1_sum_64 rfl (lv_at hl 2 rfl) ?_
                refine gM_ax C G dX1_sum_65 ?_
                refine lv_iload hx hb dX1_sum_68 (lv_at hl 1 rfl) ?_
                refine lM_ax C G (by omega) dX1_sum_70 ?_
                refine lv_aload_n hx hb dX1_sum_71 rfl (lv_at hl 2 rfl) ?_
                refine gM_ax C G dX1_sum_72 ?_
                refine lv_iload hx hb dX1_sum_75 (lv_at hl 1 rfl) ?_
                refine lM_ax C G (by omega) dX1_sum_77 ?_
                refine lv_imul hx hb dX1_sum_78 ?_
                refine lv_aload_n hx hb dX1_sum_79 rfl (lv_at hl 2 rfl) ?_
                refine gM_ay C G dX1_sum_80 ?_
                refine lv_iload hx hb dX1_sum_83 (lv_at hl 1 rfl) ?_
                refine lM_ay C G (by omega) dX1_sum_85 ?_
                refine lv_aload_n hx hb dX1_sum_86 rfl (lv_at hl 2 rfl) ?_
                refine gM_ay C G dX1_sum_87 ?_
                refine lv_iload hx hb dX1_sum_90 (lv_at hl 1 rfl) ?_
                refine lM_ay C G (by omega) dX1_sum_92 ?_
                refine lv_imul hx hb dX1_sum_93 ?_
                refine lv_iadd hx hb dX1_sum_94 ?_
                refine lv_goto (tgt := 99) hx hb dX1_sum_95 (by decide) ?_
                refine lv_iadd hx hb dX1_sum_99 ?_
                refine lv_istore_n (lv' := [(3, _), (4, _), (0, _), (1, _), (2, _)]) hx hb dX1_sum_100 rfl hl (by decide) rfl (fun ls hl => ?_)
                refine lv_iinc (lv' := [(4, _), (3, _), (0, _), (1, _), (2, _)]) hx hb dX1_sum_101 hl (k := 1) rfl (mg_inc _) (by decide) rfl (fun ls hl => ?_)
                refine lv_goto (tgt := 5) hx hb dX1_sum_104 (by decide) ?_
                exact ih (i + 1) (by omega) (by omega) H locs ls G (by rw [e1, show mg_sv ax ay w i = _ from (if_neg h3).trans ((if_neg h4).trans (if_pos h5))]; exact lv_sub hl [1, 0, 2, 3, 4] rfl)
            · refine lv_aload_n hx hb dX1_sum_49 rfl (lv_at hl 2 rfl) ?_
              refine gM_ay C G dX1_sum_50 ?_
              refine lv_iload hx hb dX1_sum_53 (lv_at hl 1 rfl) ?_
              refine lM_ay C G (by omega) dX1_sum_55 ?_
              refine lv_goto (tgt := 99) hx hb dX1_sum_56 (by decide) ?_
              refine lv_iadd hx hb dX1_sum_99 ?_
              refine lv_istore_n (lv' := [(3, _), (4, _), (0, _), (1, _), (2, _)]) hx hb dX1_sum_100 rfl hl (by decide) rfl (fun ls hl => ?_)
              refine lv_iinc (lv' := [(4, _), (3, _), (0, _), (1, _), (2, _)]) hx hb dX1_sum_101 hl (k := 1) rfl (mg_inc _) (by decide) rfl (fun ls hl => ?_)
              refine lv_goto (tgt := 5) hx hb dX1_sum_104 (by decide) ?_
              exact ih (i + 1) (by omega) (by omega) H locs ls G (by rw [e1, show mg_sv ax ay w i = _ from (if_neg h3).trans (if_pos h4)]; exact lv_sub hl [1, 0, 2, 3, 4] rfl)
          · refine lv_aload_n hx hb dX1_sum_34 rfl (lv_at hl 2 rfl) ?_
            refine gM_ax C G dX1_sum_35 ?_
            refine lv_iload hx hb dX1_sum_38 (lv_at hl 1 rfl) ?_
            refine lM_ax C G (by omega) dX1_sum_40 ?_
            refine lv_goto (tgt := 99) hx hb dX1_sum_41 (by decide) ?_
            refine lv_iadd hx hb dX1_sum_99 ?_
            refine lv_istore_n (lv' := [(3, _), (4, _), (0, _), (1, _), (2, _)]) hx hb dX1_sum_100 rfl hl (by decide) rfl (fun ls hl => ?_)
            refine lv_iinc (lv' := [(4, _), (3, _), (0, _), (1, _), (2, _)]) hx hb dX1_sum_101 hl (k := 1) rfl (mg_inc _) (by decide) rfl (fun ls hl => ?_)
            refine lv_goto (tgt := 5) hx hb dX1_sum_104 (by decide) ?_
            exact ih (i + 1) (by omega) (by omega) H locs ls G (by rw [e1, show mg_sv ax ay w i = _ from if_pos h3]; exact lv_sub hl [1, 0, 2, 3, 4] rfl)
set_option maxHeartbeats 4000000 in
set_option maxRecDepth 100000 in
/-- sum(group, which) -/
theorem kM_sum (l : Launch) (D : va_G) (b : Nat → Nat) (cI cZ : ClassId) (kk : Int32) (ax ay mb sx sy mx my mc : AR) (sz : Nat) (n : Nat) (v w : Int32) (hn : n ≤ 24) : Met l yX1_sum (ws_ yX1_sum cX1_sum 5 (some .int)) (mg_R 0 0) (va_Pc [.ref (b 0), .int v, .int w] (mg_pre D (mg_ty cI cZ) (wM b cI (nI n) kk ax ay mb sx sy mx my mc) sz)) (va_Qi (fun (r : Int32) (u : Unit) => r = mg_sm ax ay mb v w n) (mg_bk D (mg_ty cI cZ) (fun (u : Unit) => wM b cI (nI n) kk ax ay mb sx sy mx my mc) (va_A (wM b cI (nI n) kk ax ay mb sx sy mx my mc) sz)) (va_A (wM b cI (nI n) kk ax ay mb sx sy mx my mc) sz)) 0 0 (va_A (wM b cI (nI n) kk ax ay mb sx sy mx my mc) sz) := by
  refine mg_meti (by decide) (Nat.le_of_ble_eq_true rfl) ?_
  intro p e s m below meth c A ls C hin G hl
  have C : mg_cx p s m _ meth c cX1_sum (some .int) 5 RX1 A := C
  obtain ⟨hx, hb, hr, hml, hown, hts, hlk, hA⟩ := id C
  have hl : lv_has ls 5 [(0, _), (1, _), (2, _)] := hl
  refine lv_iconst (v := (mg_sm ax ay mb v w 0)) hx hb dX1_sum_0 rfl ?_
  refine lv_istore_n (lv' := [(3, _), (0, _), (1, _), (2, _)]) hx hb dX1_sum_1 rfl hl (by decide) rfl (fun ls hl => ?_)
  refine lv_iconst (v := (nI 0)) hx hb dX1_sum_2 (by decide) ?_
  refine lv_istore (lv' := [(4, _), (3, _), (0, _), (1, _), (2, _)]) hx hb dX1_sum_3 hl (by decide) rfl (fun ls hl => ?_)
  refine lM_sum1 C hn (fun H locs ls G hl => ?_) 25 0 (by omega) (by omega) _ _ ls G (lv_sub hl [1, 0, 2, 3, 4] rfl)
  refine lv_iload_n hx hb dX1_sum_107 rfl (lv_at hl 0 rfl) ?_
  exact mg_iret C () G rfl dX1_sum_108
theorem iM_sum {b : Nat → Nat} {cI cZ : ClassId} {kk : Int32} {ax ay mb sx sy mx my mc : AR} {n : Nat} {v w : Int32} (C : mg_cx p s m args meth c cc ret nL RX1 A) (G : mg_wd D (mg_ty cI cZ) A s (wM b cI (nI n) kk ax ay mb sx sy mx my mc) H locs) (hn : n ≤ 24) (hR : 0 + 1 ≤ R.frames ∧ 8 + (5 + 11) + 0 ≤ R.locals) (hf : cells ≤ R.cells ∧ slots ≤ R.slots) (hsz : ls.size = nL) (hrm : (rest.map fun v => v.category).sum ≤ 8) (hdg : decode cc pc = .ok (.invokevirtual 63, 3))
    (go : ∀ (r : Int32) (H1 : Heap) (locs1 : List Loc), (r = mg_sm ax ay mb v w n) → mg_wd D (mg_ty cI cZ) A s (wM b cI (nI n) kk ax ay mb sx sy mx my mc) H1 locs1 → W p l e R s m args below meth c H1 locs1 cells slots Q (F0 m (pc + 3) ls (.int r :: rest))) : W p l e R s m args below meth c H locs cells slots Q (F0 m pc ls (.int w :: .int v :: .ref (b 0) :: rest)) := by
  have hts := C.2.2.2.2.2.1
  exact mg_ci (mg_runV C G (kM_sum l D b cI cZ kk ax ay mb sx sy mx my mc H.size n v w hn) (cwV 2 hts (lw_V q226 q227 q228 q11 q229) rfl rfl rfl (by decide +kernel) hR) (ci := 1) rfl rfl rfl rfl hsz rfl hrm hdg hf) G.2.2.2 (mg_free C G) (fun r u H1 locs1 hp B => go r H1 locs1 hp (mg_whole C G B))
end GB2
end
section
/-! the model: far, nearer, nearest, round, settle, near -/
theorem mg_lge {x y : Int64} (h : 0 ≤ lg_cmp x y) : ¬ x < y := Int64.not_lt.mpr ((lg_cmp_ge x y).mp h)
theorem mg_lgn {x y : Int64} (h : ¬ 0 ≤ lg_cmp x y) : x < y := Int64.not_le.mp (fun q => h ((lg_cmp_ge x y).mpr q))
section GM3
variable {p : Program} {l : Launch} {e : Env} {R : Room} {s : State} {m : MethodId} {args : Array Value} {below : List Frame} {meth : Method} {c : Code} {H : Heap} {locs : List Loc} {cells slots : Nat} {Q : State → Prop}
variable {cc : ByteArray} {ret : Option FieldType} {nL : Nat} {own : String} {A : Nat → Prop} {D : va_G} {pc : Nat} {ls : Array Slot} {rest : List Value}

set_option maxHeartbeats 4000000 in
set_option maxRecDepth 100000 in
/-- far(point, g) -/
theorem kM_far (l : Launch) (D : va_G) (b : Nat → Nat) (cI cZ : ClassId) (pt kk : Int32) (ax ay mb sx sy mx my mc : AR) (sz : Nat) (pp g : Nat) (hp : pp < 24) (hg : g < 4) : Met l yX1_far (ws_ yX1_far cX1_far 7 (some .long)) (mg_R 0 0) (va_Pc [.ref (b 0), .int (nI pp), .int (nI g)] (mg_pre D (mg_ty cI cZ) (wM b cI pt kk ax ay mb sx sy mx my mc) sz)) (va_Ql (fun (r : Int64) (u : Unit) => r = mg_far ax ay mx my mc pp g) (mg_bk D (mg_ty cI cZ) (fun (u : Unit) => wM b cI pt kk ax ay mb sx sy mx my mc) (va_A (wM b cI pt kk ax ay mb sx sy mx my mc) sz)) (va_A (wM b cI pt kk ax ay mb sx sy mx my mc) sz)) 0 0 (va_A (wM b cI pt kk ax ay mb sx sy mx my mc) sz) := by
  refine mg_metl (by decide) (Nat.le_of_ble_eq_true rfl) ?_
  intro p e s m below meth c A ls C hin G hl
  have C : mg_cx p s m _ meth c cX1_far (some .long) 7 RX1 A := C
  obtain ⟨hx, hb, hr, hml, hown, hts, hlk, hA⟩ := id C
  have hl : lv_has ls 7 [(0, _), (1, _), (2, _)] := hl
  refine lv_aload_n hx hb dX1_far_0 rfl (lv_at hl 0 rfl) ?_
  refine gM_ax C G dX1_far_1 ?_
  refine lv_iload_n hx hb dX1_far_4 rfl (lv_at hl 1 rfl) ?_
  refine lM_ax C G (by omega) dX1_far_5 ?_
  refine lv_aload_n hx hb dX1_far_6 rfl (lv_at hl 0 rfl) ?_
  refine gM_mc C G dX1_far_7 ?_
  refine lv_iload_n hx hb dX1_far_10 rfl (lv_at hl 2 rfl) ?_
  refine lM_mc C G (by omega) dX1_far_11 ?_
  refine lv_imul hx hb dX1_far_12 ?_
  refine lv_aload_n hx hb dX1_far_13 rfl (lv_at hl 0 rfl) ?_
  refine gM_mx C G dX1_far_14 ?_
  refine lv_iload_n hx hb dX1_far_17 rfl (lv_at hl 2 rfl) ?_
  refine lM_mx C G (by omega) dX1_far_18 ?_
  refine lv_isub hx hb dX1_far_19 ?_
  refine lv_i2l hx hb dX1_far_20 rfl ?_
  refine lv_lstore_n (lv' := [(3, _), (0, _), (1, _), (2, _)]) hx hb dX1_far_21 rfl hl (by decide) rfl (fun ls hl => ?_)
  refine lv_aload_n hx hb dX1_far_22 rfl (lv_at hl 1 rfl) ?_
  refine gM_ay C G dX1_far_23 ?_
  refine lv_iload_n hx hb dX1_far_26 rfl (lv_at hl 2 rfl) ?_
  refine lM_ay C G (by omega) dX1_far_27 ?_
  refine lv_aload_n hx hb dX1_far_28 rfl (lv_at hl 1 rfl) ?_
  refine gM_mc C G dX1_far_29 ?_
  refine lv_iload_n hx hb dX1_far_32 rfl (lv_at hl 3 rfl) ?_
  refine lM_mc C G (by omega) dX1_far_33 ?_
  refine lv_imul hx hb dX1_far_34 ?_
  refine lv_aload_n hx hb dX1_far_35 rfl (lv_at hl 1 rfl) ?_
  refine gM_my C G dX1_far_36 ?_
  refine lv_iload_n hx hb dX1_far_39 rfl (lv_at hl 3 rfl) ?_
  refine lM_my C G (by omega) dX1_far_40 ?_
  refine lv_isub hx hb dX1_far_41 ?_
  refine lv_i2l hx hb dX1_far_42 rfl ?_
  refine lv_lstore (lv' := [(5, _), (3, _), (0, _), (1, _), (2, _)]) hx hb dX1_far_43 hl (by decide) rfl (fun ls hl => ?_)
  refine lv_lload_n hx hb dX1_far_45 rfl (lv_at hl 1 rfl) ?_
  refine lv_lload_n hx hb dX1_far_46 rfl (lv_at hl 1 rfl) ?_
  refine lv_lmul hx hb dX1_far_47 ?_
  refine lv_lload hx hb dX1_far_48 (lv_at hl 0 rfl) ?_
  refine lv_lload hx hb dX1_far_50 (lv_at hl 0 rfl) ?_
  refine lv_lmul hx hb dX1_far_52 ?_
  refine lv_ladd hx hb dX1_far_53 ?_
  exact mg_lret C () G rfl dX1_far_54
theorem iM_far {b : Nat → Nat} {cI cZ : ClassId} {pt kk : Int32} {ax ay mb sx sy mx my mc : AR} {pp g : Nat} (C : mg_cx p s m args meth c cc ret nL RX1 A) (G : mg_wd D (mg_ty cI cZ) A s (wM b cI pt kk ax ay mb sx sy mx my mc) H locs) (hp : pp < 24) (hg : g < 4) (hR : 0 + 1 ≤ R.frames ∧ 8 + (7 + 11) + 0 ≤ R.locals) (hf : cells ≤ R.cells ∧ slots ≤ R.slots) (hsz : ls.size = nL) (hrm : (rest.map fun v => v.category).sum ≤ 8) (hdg : decode cc pc = .ok (.invokevirtual 48, 3))
    (go : ∀ (r : Int64) (H1 : Heap) (locs1 : List Loc), (r = mg_far ax ay mx my mc pp g) → mg_wd D (mg_ty cI cZ) A s (wM b cI pt kk ax ay mb sx sy mx my mc) H1 locs1 → W p l e R s m args below meth c H1 locs1 cells slots Q (F0 m (pc + 3) ls (.long r :: rest))) : W p l e R s m args below meth c H locs cells slots Q (F0 m pc ls (.int (nI g) :: .int (nI pp) :: .ref (b 0) :: rest)) := by
  have hts := C.2.2.2.2.2.1
  exact mg_cl (mg_runV C G (kM_far l D b cI cZ pt kk ax ay mb sx sy mx my mc H.size pp g hp hg) (cwV 2 hts (lw_V q218 q220 qs8 q11 q221) rfl rfl rfl (by decide +kernel) hR) (ci := 1) rfl rfl rfl rfl hsz rfl hrm hdg hf) G.2.2.2 (mg_free C G) (fun r u H1 locs1 hp B => go r H1 locs1 hp (mg_whole C G B))
set_option maxHeartbeats 4000000 in
set_option maxRecDepth 100000 in
/-- nearer(point, g, h) -/
theorem kM_nearer (l : Launch) (D : va_G) (b : Nat → Nat) (cI cZ : ClassId) (pt kk : Int32) (ax ay mb sx sy mx my mc : AR) (sz : Nat) (pp g h : Nat) (hp : pp < 24) (hg : g < 4) (hh : h < 4) : Met l yX1_nearer (ws_ yX1_nearer cX1_nearer 4 (some .boolean)) (mg_R 1 26) (va_Pc [.ref (b 0), .int (nI pp), .int (nI g), .int (nI h)] (mg_pre D (mg_ty cI cZ) (wM b cI pt kk ax ay mb sx sy mx my mc) sz)) (va_Qi (fun (r : Int32) (u : Unit) => r = if mg_nP ax ay mx my mc pp g h then 1 else 0) (mg_bk D (mg_ty cI cZ) (fun (u : Unit) => wM b cI pt kk ax ay mb sx sy mx my mc) (va_A (wM b cI pt kk ax ay mb sx sy mx my mc) sz)) (va_A (wM b cI pt kk ax ay mb sx sy mx my mc) sz)) 0 0 (va_A (wM b cI pt kk ax ay mb sx sy mx my mc) sz) := by
  refine mg_meti (by decide) (Nat.le_of_ble_eq_true rfl) ?_
  intro p e s m below meth c A ls C hin G hl
  have C : mg_cx p s m _ meth c cX1_nearer (some .boolean) 4 RX1 A := C
  obtain ⟨hx, hb, hr, hml, hown, hts, hlk, hA⟩ := id C
  have hl : lv_has ls 4 [(0, _), (1, _), (2, _), (3, _)] := hl
  refine lv_aload_n hx hb dX1_nearer_0 rfl (lv_at hl 0 rfl) ?_
  refine lv_iload_n hx hb dX1_nearer_1 rfl (lv_at hl 1 rfl) ?_
  refine lv_iload_n hx hb dX1_nearer_2 rfl (lv_at hl 2 rfl) ?_
  refine iM_far C G (by omega) (by omega) ⟨Nat.le_of_ble_eq_true rfl, Nat.le_of_ble_eq_true rfl⟩ ⟨Nat.zero_le _, Nat.zero_le _⟩ hl.1 (Nat.le_of_ble_eq_true rfl) dX1_nearer_3 (fun r1 H locs hr1 G => ?_)
  subst hr1
  refine lv_aload_n hx hb dX1_nearer_6 rfl (lv_at hl 0 rfl) ?_
  refine gM_mc C G dX1_nearer_7 ?_
  refine lv_iload_n hx hb dX1_nearer_10 rfl (lv_at hl 3 rfl) ?_
  refine lM_mc C G (by omega) dX1_nearer_11 ?_
  refine lv_i2l hx hb dX1_nearer_12 rfl ?_
  refine lv_lmul hx hb dX1_nearer_13 ?_
  refine lv_aload_n hx hb dX1_nearer_14 rfl (lv_at hl 0 rfl) ?_
  refine gM_mc C G dX1_nearer_15 ?_
  refine lv_iload_n hx hb dX1_nearer_18 rfl (lv_at hl 3 rfl) ?_
  refine lM_mc C G (by omega) dX1_nearer_19 ?_
  refine lv_i2l hx hb dX1_nearer_20 rfl ?_
  refine lv_lmul hx hb dX1_nearer_21 ?_
  refine lv_aload_n hx hb dX1_nearer_22 rfl (lv_at hl 0 rfl) ?_
  refine lv_iload_n hx hb dX1_nearer_23 rfl (lv_at hl 1 rfl) ?_
  refine lv_iload_n hx hb dX1_nearer_24 rfl (lv_at hl 3 rfl) ?_
  refine iM_far C G (by omega) (by omega) ⟨Nat.le_of_ble_eq_true rfl, Nat.le_of_ble_eq_true rfl⟩ ⟨Nat.zero_le _, Nat.zero_le _⟩ hl.1 (Nat.le_of_ble_eq_true rfl) dX1_nearer_25 (fun r2 H locs hr2 G => ?_)
  subst hr2
  refine lv_aload_n hx hb dX1_nearer_28 rfl (lv_at hl 0 rfl) ?_
  refine gM_mc C G dX1_nearer_29 ?_
  refine lv_iload_n hx hb dX1_nearer_32 rfl (lv_at hl 2 rfl) ?_
  refine lM_mc C G (by omega) dX1_nearer_33 ?_
  refine lv_i2l hx hb dX1_nearer_34 rfl ?_
  refine lv_lmul hx hb dX1_nearer_35 ?_
  refine lv_aload_n hx hb dX1_nearer_36 rfl (lv_at hl 0 rfl) ?_
  refine gM_mc C G dX1_nearer_37 ?_
  refine lv_iload_n hx hb dX1_nearer_40 rfl (lv_at hl 2 rfl) ?_
  refine lM_mc C G (by omega) dX1_nearer_41 ?_
  refine lv_i2l hx hb dX1_nearer_42 rfl ?_
  refine lv_lmul hx hb dX1_nearer_43 ?_
  refine W.lcmp hx hb dX1_nearer_44 ?_
  refine lv_if_ge (tgt := 52) hx hb dX1_nearer_45 (by decide) (fun h1 => ?_) (fun h1 => ?_)
  · refine lv_iconst (v := (0)) hx hb dX1_nearer_52 (by decide) ?_
    exact mg_zret C () G rfl (if_neg (mg_lge h1)).symm dX1_nearer_53
  · refine lv_iconst (v := (1)) hx hb dX1_nearer_48 (by decide) ?_
    refine lv_goto (tgt := 53) hx hb dX1_nearer_49 (by decide) ?_
    exact mg_zret C () G rfl (if_pos (mg_lgn h1)).symm dX1_nearer_53
theorem iM_nearer {b : Nat → Nat} {cI cZ : ClassId} {pt kk : Int32} {ax ay mb sx sy mx my mc : AR} {pp g h : Nat} (C : mg_cx p s m args meth c cc ret nL RX1 A) (G : mg_wd D (mg_ty cI cZ) A s (wM b cI pt kk ax ay mb sx sy mx my mc) H locs) (hp : pp < 24) (hg : g < 4) (hh : h < 4) (hR : 1 + 1 ≤ R.frames ∧ 8 + (4 + 11) + 26 ≤ R.locals) (hf : cells ≤ R.cells ∧ slots ≤ R.slots) (hsz : ls.size = nL) (hrm : (rest.map fun v => v.category).sum ≤ 8) (hdg : decode cc pc = .ok (.invokevirtual 52, 3))
    (go : ∀ (r : Int32) (H1 : Heap) (locs1 : List Loc), (r = if mg_nP ax ay mx my mc pp g h then 1 else 0) → mg_wd D (mg_ty cI cZ) A s (wM b cI pt kk ax ay mb sx sy mx my mc) H1 locs1 → W p l e R s m args below meth c H1 locs1 cells slots Q (F0 m (pc + 3) ls (.int r :: rest))) : W p l e R s m args below meth c H locs cells slots Q (F0 m pc ls (.int (nI h) :: .int (nI g) :: .int (nI pp) :: .ref (b 0) :: rest)) := by
  have hts := C.2.2.2.2.2.1
  exact mg_ci (mg_runV C G (kM_nearer l D b cI cZ pt kk ax ay mb sx sy mx my mc H.size pp g h hp hg hh) (cwV 3 hts (lw_V q214 q216 qs7 q11 q217) rfl rfl rfl (by decide +kernel) hR) (ci := 1) rfl rfl rfl rfl hsz rfl hrm hdg hf) G.2.2.2 (mg_free C G) (fun r u H1 locs1 hp B => go r H1 locs1 hp (mg_whole C G B))
set_option maxHeartbeats 4000000 in
set_option maxRecDepth 100000 in
/-- nearest, a loop -/
theorem lM_nearest1 {b : Nat → Nat} {cI cZ : ClassId} {pt : Int32} {ax ay mb sx sy mx my mc : AR} {N pp : Nat} (C : mg_cx p s m args meth c cX1_nearest ret 4 RX1 A) (hN : N < 4) (hp : pp < 24)
    (go : ∀ (H : Heap) (locs : List Loc) (ls : Array Slot), mg_wd D (mg_ty cI cZ) A s (wM b cI pt (nI (N + 1)) ax ay mb sx sy mx my mc) H locs → lv_has ls 4 [(2, .int (nI (mg_nr ax ay mx my mc pp N)))] → W p l e (mg_R 2 49) s m args below meth c H locs 0 0 Q (F0 m 30 ls [])) :
    ∀ (n i : Nat) , i ≤ N → N < i + n → ∀ (H : Heap) (locs : List Loc) (ls : Array Slot), mg_wd D (mg_ty cI cZ) A s (wM b cI pt (nI (N + 1)) ax ay mb sx sy mx my mc) H locs → lv_has ls 4 [(2, .int (nI (mg_nr ax ay mx my mc pp i))), (3, .int (nI (i + 1))), (0, .ref (b 0)), (1, .int (nI pp))] → W p l e (mg_R 2 49) s m args below meth c H locs 0 0 Q (F0 m 4 ls []) := by
  obtain ⟨hx, hb, hr, hml, hown, hts, hlk, hA⟩ := id C
  intro n
  induction n with
  | zero => intro i h1 h2; exact absurd h2 (by omega)
  | succ n ih =>
    intro i hi hin  H locs ls G hl
    have hle := mg_nr_le ax ay mx my mc pp i
    refine lv_iload_n hx hb dX1_nearest_4 rfl (lv_at hl 1 rfl) ?_
    refine lv_aload_n hx hb dX1_nearest_5 rfl (lv_at hl 2 rfl) ?_
    refine gM_kk C G dX1_nearest_6 ?_
    refine mg_ige (tgt := 30) hx hb (by omega) (by omega) dX1_nearest_9 (by decide) (fun h => ?_) (fun h => ?_)
    · obtain rfl : i = N := by omega
      exact go H locs ls G (lv_sub hl [0] rfl)
    · refine lv_aload_n hx hb dX1_nearest_12 rfl (lv_at hl 2 rfl) ?_
      refine lv_iload_n hx hb dX1_nearest_13 rfl (lv_at hl 3 rfl) ?_
      refine lv_iload_n hx hb dX1_nearest_14 rfl (lv_at hl 1 rfl) ?_
      refine lv_iload_n hx hb dX1_nearest_15 rfl (lv_at hl 0 rfl) ?_
      refine iM_nearer C G (by omega) (by omega) (by omega) ⟨Nat.le_of_ble_eq_true rfl, Nat.le_of_ble_eq_true rfl⟩ ⟨Nat.zero_le _, Nat.zero_le _⟩ hl.1 (Nat.le_of_ble_eq_true rfl) dX1_nearest_16 (fun r1 H locs hr1 G => ?_)
      refine lv_if_eq (tgt := 24) hx hb dX1_nearest_19 (by decide) (fun h1 => ?_) (fun h1 => ?_)
      · refine lv_iinc (lv' := [(3, _), (2, _), (0, _), (1, _)]) hx hb dX1_nearest_24 hl (k := 1) rfl (mg_inc _) (by decide) rfl (fun ls hl => ?_)
        refine lv_goto (tgt := 4) hx hb dX1_nearest_27 (by decide) ?_
        exact ih (i + 1) (by omega) (by omega) H locs ls G (by rw [show mg_nr ax ay mx my mc pp (i + 1) = _ from if_neg (mg_b0 hr1 h1)]; exact lv_sub hl [1, 0, 2, 3] rfl)
      · refine lv_iload_n hx hb dX1_nearest_22 rfl (lv_at hl 1 rfl) ?_
        refine lv_istore_n (lv' := [(2, _), (3, _), (0, _), (1, _)]) hx hb dX1_nearest_23 rfl hl (by decide) rfl (fun ls hl => ?_)
        refine lv_iinc (lv' := [(3, _), (2, _), (0, _), (1, _)]) hx hb dX1_nearest_24 hl (k := 1) rfl (mg_inc _) (by decide) rfl (fun ls hl => ?_)
        refine lv_goto (tgt := 4) hx hb dX1_nearest_27 (by decide) ?_
        exact ih (i + 1) (by omega) (by omega) H locs ls G (by rw [show mg_nr ax ay mx my mc pp (i + 1) = _ from if_pos (mg_b1 hr1 h1)]; exact lv_sub hl [1, 0, 2, 3] rfl)
set_option maxHeartbeats 4000000 in
set_option maxRecDepth 100000 in
/-- nearest(point) -/
theorem kM_nearest (l : Launch) (D : va_G) (b : Nat → Nat) (cI cZ : ClassId) (pt : Int32) (ax ay mb sx sy mx my mc : AR) (sz : Nat) (k pp : Nat) (hk : 1 ≤ k ∧ k ≤ 4) (hp : pp < 24) : Met l yX1_nearest (ws_ yX1_nearest cX1_nearest 4 (some .int)) (mg_R 2 49) (va_Pc [.ref (b 0), .int (nI pp)] (mg_pre D (mg_ty cI cZ) (wM b cI pt (nI k) ax ay mb sx sy mx my mc) sz)) (va_Qi (fun (r : Int32) (u : Unit) => r = nI (mg_nr ax ay mx my mc pp (k - 1))) (mg_bk D (mg_ty cI cZ) (fun (u : Unit) => wM b cI pt (nI k) ax ay mb sx sy mx my mc) (va_A (wM b cI pt (nI k) ax ay mb sx sy mx my mc) sz)) (va_A (wM b cI pt (nI k) ax ay mb sx sy mx my mc) sz)) 0 0 (va_A (wM b cI pt (nI k) ax ay mb sx sy mx my mc) sz) := by
  refine mg_meti (by decide) (Nat.le_of_ble_eq_true rfl) ?_
  intro p e s m below meth c A ls C hin G hl
  have C : mg_cx p s m _ meth c cX1_nearest (some .int) 4 RX1 A := C
  obtain ⟨hx, hb, hr, hml, hown, hts, hlk, hA⟩ := id C
  have hl : lv_has ls 4 [(0, _), (1, _)] := hl
  obtain ⟨N, rfl⟩ : ∃ N, k = N + 1 := ⟨k - 1, by omega⟩
  refine lv_iconst (v := (nI (mg_nr ax ay mx my mc pp 0))) hx hb dX1_nearest_0 rfl ?_
  refine lv_istore_n (lv' := [(2, _), (0, _), (1, _)]) hx hb dX1_nearest_1 rfl hl (by decide) rfl (fun ls hl => ?_)
  refine lv_iconst (v := (nI (0 + 1))) hx hb dX1_nearest_2 rfl ?_
  refine lv_istore_n (lv' := [(3, _), (2, _), (0, _), (1, _)]) hx hb dX1_nearest_3 rfl hl (by decide) rfl (fun ls hl => ?_)
  refine lM_nearest1 C (by omega) hp (fun H locs ls G hl => ?_) 5 0 (by omega) (by omega) _ _ ls G (lv_sub hl [1, 0, 2, 3] rfl)
  refine lv_iload_n hx hb dX1_nearest_30 rfl (lv_at hl 0 rfl) ?_
  exact mg_iret C () G rfl dX1_nearest_31
theorem iM_nearest {b : Nat → Nat} {cI cZ : ClassId} {pt : Int32} {ax ay mb sx sy mx my mc : AR} {k pp : Nat} (C : mg_cx p s m args meth c cc ret nL RX1 A) (G : mg_wd D (mg_ty cI cZ) A s (wM b cI pt (nI k) ax ay mb sx sy mx my mc) H locs) (hk : 1 ≤ k ∧ k ≤ 4) (hp : pp < 24) (hR : 2 + 1 ≤ R.frames ∧ 8 + (4 + 11) + 49 ≤ R.locals) (hf : cells ≤ R.cells ∧ slots ≤ R.slots) (hsz : ls.size = nL) (hrm : (rest.map fun v => v.category).sum ≤ 8) (hdg : decode cc pc = .ok (.invokevirtual 56, 3))
    (go : ∀ (r : Int32) (H1 : Heap) (locs1 : List Loc), (r = nI (mg_nr ax ay mx my mc pp (k - 1))) → mg_wd D (mg_ty cI cZ) A s (wM b cI pt (nI k) ax ay mb sx sy mx my mc) H1 locs1 → W p l e R s m args below meth c H1 locs1 cells slots Q (F0 m (pc + 3) ls (.int r :: rest))) : W p l e R s m args below meth c H locs cells slots Q (F0 m pc ls (.int (nI pp) :: .ref (b 0) :: rest)) := by
  have hts := C.2.2.2.2.2.1
  exact mg_ci (mg_runV C G (kM_nearest l D b cI cZ pt ax ay mb sx sy mx my mc H.size k pp hk hp) (cwV 1 hts (lw_V q210 q212 qs6 q11 q213) rfl rfl rfl (by decide +kernel) hR) (ci := 1) rfl rfl rfl rfl hsz rfl hrm hdg hf) G.2.2.2 (mg_free C G) (fun r u H1 locs1 hp B => go r H1 locs1 hp (mg_whole C G B))
set_option maxHeartbeats 4000000 in
set_option maxRecDepth 100000 in
/-- round, a loop -/
theorem lM_round1 {b : Nat → Nat} {cI cZ : ClassId} {ax ay mb sx sy mx my mc : AR} {N k : Nat} (C : mg_cx p s m args meth c cX1_round ret 4 RX1 A) (hN : N ≤ 24) (hk : 1 ≤ k ∧ k ≤ 4)
    (go : ∀ (H : Heap) (locs : List Loc) (ls : Array Slot), mg_wd D (mg_ty cI cZ) A s (wM b cI (nI N) (nI k) ax ay (mg_rs N mb (mg_nF ax ay mx my mc k)) sx sy mx my mc) H locs → lv_has ls 4 [(1, .int (nI (mg_ch ax ay mx my mc mb k N))), (0, .ref (b 0))] → W p l e (mg_R 3 72) s m args below meth c H locs 0 0 Q (F0 m 44 ls [])) :
    ∀ (n i : Nat) , i ≤ N → N < i + n → ∀ (H : Heap) (locs : List Loc) (ls : Array Slot), mg_wd D (mg_ty cI cZ) A s (wM b cI (nI N) (nI k) ax ay (mg_rs i mb (mg_nF ax ay mx my mc k)) sx sy mx my mc) H locs → lv_has ls 4 [(1, .int (nI (mg_ch ax ay mx my mc mb k i))), (2, .int (nI i)), (0, .ref (b 0))] → W p l e (mg_R 3 72) s m args below meth c H locs 0 0 Q (F0 m 4 ls []) := by
  obtain ⟨hx, hb, hr, hml, hown, hts, hlk, hA⟩ := id C
  intro n
  induction n with
  | zero => intro i h1 h2; exact absurd h2 (by omega)
  | succ n ih =>
    intro i hi hin  H locs ls G hl
    refine lv_iload_n hx hb dX1_round_4 rfl (lv_at hl 1 rfl) ?_
    refine lv_aload_n hx hb dX1_round_5 rfl (lv_at hl 2 rfl) ?_
    refine gM_pt C G dX1_round_6 ?_
    refine mg_ige (tgt := 44) hx hb (by omega) (by omega) dX1_round_9 (by decide) (fun h => ?_) (fun h => ?_)
    · obtain rfl : i = N := by omega
      exact go H locs ls G (lv_sub hl [0, 2] rfl)
    · refine lv_aload_n hx hb dX1_round_12 rfl (lv_at hl 2 rfl) ?_
      refine lv_iload_n hx hb dX1_round_13 rfl (lv_at hl 1 rfl) ?_
      refine iM_nearest C G hk (by omega) ⟨Nat.le_of_ble_eq_true rfl, Nat.le_of_ble_eq_true rfl⟩ ⟨Nat.zero_le _, Nat.zero_le _⟩ hl.1 (Nat.le_of_ble_eq_true rfl) dX1_round_14 (fun r1 H locs hr1 G => ?_)
      subst hr1
      refine lv_istore_n (lv' := [(3, _), (1, _), (2, _), (0, _)]) hx hb dX1_round_17 rfl hl (by decide) rfl (fun ls hl => ?_)
      refine lv_iload_n hx hb dX1_round_18 rfl (lv_at hl 0 rfl) ?_
      refine lv_aload_n hx hb dX1_round_19 rfl (lv_at hl 3 rfl) ?_
      refine gM_mb C G dX1_round_20 ?_
      refine lv_iload_n hx hb dX1_round_23 rfl (lv_at hl 2 rfl) ?_
      refine lM_mb C G (by omega) dX1_round_24 ?_
      refine lv_icmp_eq (tgt := 31) hx hb dX1_round_25 (by decide) (fun h1 => ?_) (fun h1 => ?_)
      · rw [mg_rs_out (Nat.le_refl i)] at h1
        refine lv_aload_n hx hb dX1_round_31 rfl (lv_at hl 3 rfl) ?_
        refine gM_mb C G dX1_round_32 ?_
        refine lv_iload_n hx hb dX1_round_35 rfl (lv_at hl 2 rfl) ?_
        refine lv_iload_n hx hb dX1_round_36 rfl (lv_at hl 0 rfl) ?_
        refine sM_mb C G (by omega) dX1_round_37 (fun H locs G => ?_)
        refine lv_iinc (lv' := [(2, _), (3, _), (1, _), (0, _)]) hx hb dX1_round_38 hl (k := 2) rfl (mg_inc _) (by decide) rfl (fun ls hl => ?_)
        refine lv_goto (tgt := 4) hx hb dX1_round_41 (by decide) ?_
        rw [mg_rs_s i mb (mg_nF ax ay mx my mc k) (v := nI (mg_nr ax ay mx my mc i (k - 1))) rfl] at G
        exact ih (i + 1) (by omega) (by omega) H locs ls G (by rw [show mg_ch ax ay mx my mc mb k (i + 1) = _ from if_pos h1]; exact lv_sub hl [2, 0, 3] rfl)
      · rw [mg_rs_out (Nat.le_refl i)] at h1
        refine lv_iinc (lv' := [(1, _), (3, _), (2, _), (0, _)]) hx hb dX1_round_28 hl (k := 1) rfl (mg_inc _) (by decide) rfl (fun ls hl => ?_)
        refine lv_aload_n hx hb dX1_round_31 rfl (lv_at hl 3 rfl) ?_
        refine gM_mb C G dX1_round_32 ?_
        refine lv_iload_n hx hb dX1_round_35 rfl (lv_at hl 2 rfl) ?_
        refine lv_iload_n hx hb dX1_round_36 rfl (lv_at hl 1 rfl) ?_
        refine sM_mb C G (by omega) dX1_round_37 (fun H locs G => ?_)
        refine lv_iinc (lv' := [(2, _), (1, _), (3, _), (0, _)]) hx hb dX1_round_38 hl (k := 2) rfl (mg_inc _) (by decide) rfl (fun ls hl => ?_)
        refine lv_goto (tgt := 4) hx hb dX1_round_41 (by decide) ?_
        rw [mg_rs_s i mb (mg_nF ax ay mx my mc k) (v := nI (mg_nr ax ay mx my mc i (k - 1))) rfl] at G
        exact ih (i + 1) (by omega) (by omega) H locs ls G (by rw [show mg_ch ax ay mx my mc mb k (i + 1) = _ from if_neg h1]; exact lv_sub hl [1, 0, 3] rfl)
set_option maxHeartbeats 4000000 in
set_option maxRecDepth 100000 in
/-- round, a loop -/
theorem lM_round2 {b : Nat → Nat} {cI cZ : ClassId} {ax ay mb sx sy mx my mc : AR} {N n0 : Nat} {z : Int32} (C : mg_cx p s m args meth c cX1_round ret 4 RX1 A) (hN : N ≤ 4) (hn : n0 ≤ 24)
    (go : ∀ (H : Heap) (locs : List Loc) (ls : Array Slot), mg_wd D (mg_ty cI cZ) A s (wM b cI (nI n0) (nI N) ax ay mb sx sy (mg_mv N mb n0 (fun g => mg_sm ax ay mb (nI g) 0 n0) mx) (mg_mv N mb n0 (fun g => mg_sm ax ay mb (nI g) 1 n0) my) (mg_mv N mb n0 (fun g => mg_sz mb (nI g) n0) mc)) H locs → lv_has ls 4 [(1, .int z)] → W p l e (mg_R 3 72) s m args below meth c H locs 0 0 Q (F0 m 105 ls [])) :
    ∀ (n i : Nat) , i ≤ N → N < i + n → ∀ (H : Heap) (locs : List Loc) (ls : Array Slot), mg_wd D (mg_ty cI cZ) A s (wM b cI (nI n0) (nI N) ax ay mb sx sy (mg_mv i mb n0 (fun g => mg_sm ax ay mb (nI g) 0 n0) mx) (mg_mv i mb n0 (fun g => mg_sm ax ay mb (nI g) 1 n0) my) (mg_mv i mb n0 (fun g => mg_sz mb (nI g) n0) mc)) H locs → lv_has ls 4 [(2, .int (nI i)), (0, .ref (b 0)), (1, .int z)] → W p l e (mg_R 3 72) s m args below meth c H locs 0 0 Q (F0 m 46 ls []) := by
  obtain ⟨hx, hb, hr, hml, hown, hts, hlk, hA⟩ := id C
  intro n
  induction n with
  | zero => intro i h1 h2; exact absurd h2 (by omega)
  | succ n ih =>
    intro i hi hin  H locs ls G hl
    refine lv_iload_n hx hb dX1_round_46 rfl (lv_at hl 0 rfl) ?_
    refine lv_aload_n hx hb dX1_round_47 rfl (lv_at hl 1 rfl) ?_
    refine gM_kk C G dX1_round_48 ?_
    refine mg_ige (tgt := 105) hx hb (by omega) (by omega) dX1_round_51 (by decide) (fun h => ?_) (fun h => ?_)
    · obtain rfl : i = N := by omega
      exact go H locs ls G (lv_sub hl [2] rfl)
    · refine lv_aload_n hx hb dX1_round_54 rfl (lv_at hl 1 rfl) ?_
      refine lv_iload_n hx hb dX1_round_55 rfl (lv_at hl 0 rfl) ?_
      refine iM_size C G hn ⟨Nat.le_of_ble_eq_true rfl, Nat.le_of_ble_eq_true rfl⟩ ⟨Nat.zero_le _, Nat.zero_le _⟩ hl.1 (Nat.le_of_ble_eq_true rfl) dX1_round_56 (fun r1 H locs hr1 G => ?_)
      subst hr1
      refine lv_if_le (tgt := 99) hx hb dX1_round_59 (by decide) (fun h1 => ?_) (fun h1 => ?_)
      · refine lv_iinc (lv' := [(2, _), (0, _), (1, _)]) hx hb dX1_round_99 hl (k := 0) rfl (mg_inc _) (by decide) rfl (fun ls hl => ?_)
        refine lv_goto (tgt := 46) hx hb dX1_round_102 (by decide) ?_
        rw [mg_mv_n (Int32.not_lt.mpr h1), mg_mv_n (Int32.not_lt.mpr h1), mg_mv_n (Int32.not_lt.mpr h1)] at G
        exact ih (i + 1) (by omega) (by omega) H locs ls G (lv_sub hl [0, 1, 2] rfl)
      · refine lv_aload_n hx hb dX1_round_62 rfl (lv_at hl 1 rfl) ?_
        refine lv_iload_n hx hb dX1_round_63 rfl (lv_at hl 0 rfl) ?_
        refine iM_size C G hn ⟨Nat.le_of_ble_eq_true rfl, Nat.le_of_ble_eq_true rfl⟩ ⟨Nat.zero_le _, Nat.zero_le _⟩ hl.1 (Nat.le_of_ble_eq_true rfl) dX1_round_64 (fun r2 H locs hr2 G => ?_)
        subst hr2
        refine lv_istore_n (lv' := [(3, _), (2, _), (0, _), (1, _)]) hx hb dX1_round_67 rfl hl (by decide) rfl (fun ls hl => ?_)
        refine lv_aload_n hx hb dX1_round_68 rfl (lv_at hl 2 rfl) ?_
        refine gM_mx C G dX1_round_69 ?_
        refine lv_iload_n hx hb dX1_round_72 rfl (lv_at hl 1 rfl) ?_
        refine lv_aload_n hx hb dX1_round_73 rfl (lv_at hl 2 rfl) ?_
        refine lv_iload_n hx hb dX1_round_74 rfl (lv_at hl 1 rfl) ?_
        refine lv_iconst (v := (0)) hx hb dX1_round_75 (by decide) ?_
        refine iM_sum C G hn ⟨Nat.le_of_ble_eq_true rfl, Nat.le_of_ble_eq_true rfl⟩ ⟨Nat.zero_le _, Nat.zero_le _⟩ hl.1 (Nat.le_of_ble_eq_true rfl) dX1_round_76 (fun r3 H locs hr3 G => ?_)
        subst hr3
        refine sM_mx C G (by omega) dX1_round_79 (fun H locs G => ?_)
        refine lv_aload_n hx hb dX1_round_80 rfl (lv_at hl 2 rfl) ?_
        refine gM_my C G dX1_round_81 ?_
        refine lv_iload_n hx hb dX1_round_84 rfl (lv_at hl 1 rfl) ?_
        refine lv_aload_n hx hb dX1_round_85 rfl (lv_at hl 2 rfl) ?_
        refine lv_iload_n hx hb dX1_round_86 rfl (lv_at hl 1 rfl) ?_
        refine lv_iconst (v := (1)) hx hb dX1_round_87 (by decide) ?_
        refine iM_sum C G hn ⟨Nat.le_of_ble_eq_true rfl, Nat.le_of_ble_eq_true rfl⟩ ⟨Nat.zero_le _, Nat.zero_le _⟩ hl.1 (Nat.le_of_ble_eq_true rfl) dX1_round_88 (fun r4 H locs hr4 G => ?_)
        subst hr4
        refine sM_my C G (by omega) dX1_round_91 (fun H locs G => ?_)
        refine lv_aload_n hx hb dX1_round_92 rfl (lv_at hl 2 rfl) ?_
        refine gM_mc C G dX1_round_93 ?_
        refine lv_iload_n hx hb dX1_round_96 rfl (lv_at hl 1 rfl) ?_
        refine lv_iload_n hx hb dX1_round_97 rfl (lv_at hl 0 rfl) ?_
        refine sM_mc C G (by omega) dX1_round_98 (fun H locs G => ?_)
        refine lv_iinc (lv' := [(2, _), (3, _), (0, _), (1, _)]) hx hb dX1_round_99 hl (k := 1) rfl (mg_inc _) (by decide) rfl (fun ls hl => ?_)
        refine lv_goto (tgt := 46) hx hb dX1_round_102 (by decide) ?_
        have h1 := Int32.not_le.mp h1
        rw [mg_mv_y h1 rfl, mg_mv_y h1 rfl, mg_mv_y h1 rfl] at G
        exact ih (i + 1) (by omega) (by omega) H locs ls G (lv_sub hl [0, 2, 3] rfl)
set_option maxHeartbeats 4000000 in
set_option maxRecDepth 100000 in
/-- round() -/
theorem kM_round (l : Launch) (D : va_G) (b : Nat → Nat) (cI cZ : ClassId) (ax ay mb sx sy mx my mc : AR) (sz : Nat) (n k : Nat) (hn : n ≤ 24) (hk : 1 ≤ k ∧ k ≤ 4) : Met l yX1_round (ws_ yX1_round cX1_round 4 (some .int)) (mg_R 3 72) (va_Pc [.ref (b 0)] (mg_pre D (mg_ty cI cZ) (wM b cI (nI n) (nI k) ax ay mb sx sy mx my mc) sz)) (va_Qi (fun (r : Int32) (u : Unit) => r = nI (mg_rR ax ay k n (mb, mx, my, mc))) (mg_bk D (mg_ty cI cZ) (fun (u : Unit) => wM b cI (nI n) (nI k) ax ay ((mg_rS ax ay k n (mb, mx, my, mc)).1) sx sy ((mg_rS ax ay k n (mb, mx, my, mc)).2.1) ((mg_rS ax ay k n (mb, mx, my, mc)).2.2.1) ((mg_rS ax ay k n (mb, mx, my, mc)).2.2.2)) (va_A (wM b cI (nI n) (nI k) ax ay mb sx sy mx my mc) sz)) (va_A (wM b cI (nI n) (nI k) ax ay mb sx sy mx my mc) sz)) 0 0 (va_A (wM b cI (nI n) (nI k) ax ay mb sx sy mx my mc) sz) := by
  refine mg_meti (by decide) (Nat.le_of_ble_eq_true rfl) ?_
  intro p e s m below meth c A ls C hin G hl
  have C : mg_cx p s m _ meth c cX1_round (some .int) 4 RX1 A := C
  obtain ⟨hx, hb, hr, hml, hown, hts, hlk, hA⟩ := id C
  have hl : lv_has ls 4 [(0, _)] := hl
  refine lv_iconst (v := (nI (mg_ch ax ay mx my mc mb k 0))) hx hb dX1_round_0 rfl ?_
  refine lv_istore_n (lv' := [(1, _), (0, _)]) hx hb dX1_round_1 rfl hl (by decide) rfl (fun ls hl => ?_)
  refine lv_iconst (v := (nI 0)) hx hb dX1_round_2 (by decide) ?_
  refine lv_istore_n (lv' := [(2, _), (1, _), (0, _)]) hx hb dX1_round_3 rfl hl (by decide) rfl (fun ls hl => ?_)
  have G : mg_wd D (mg_ty cI cZ) A s (wM b cI (nI n) (nI k) ax ay (mg_rs 0 mb (mg_nF ax ay mx my mc k)) sx sy mx my mc) s.heap [] := by rw [mg_rs_0]; exact G
  refine lM_round1 C hn hk (fun H locs ls G hl => ?_) 25 0 (by omega) (by omega) _ _ ls G (lv_sub hl [1, 0, 2] rfl)
  refine lv_iconst (v := (nI 0)) hx hb dX1_round_44 (by decide) ?_
  refine lv_istore_n (lv' := [(2, _), (1, _), (0, _)]) hx hb dX1_round_45 rfl hl (by decide) rfl (fun ls hl => ?_)
  have G : mg_wd D (mg_ty cI cZ) A s (wM b cI (nI n) (nI k) ax ay (mg_rs n mb (mg_nF ax ay mx my mc k)) sx sy (mg_mv 0 (mg_rs n mb (mg_nF ax ay mx my mc k)) n (fun g => mg_sm ax ay (mg_rs n mb (mg_nF ax ay mx my mc k)) (nI g) 0 n) mx) (mg_mv 0 (mg_rs n mb (mg_nF ax ay mx my mc k)) n (fun g => mg_sm ax ay (mg_rs n mb (mg_nF ax ay mx my mc k)) (nI g) 1 n) my) (mg_mv 0 (mg_rs n mb (mg_nF ax ay mx my mc k)) n (fun g => mg_sz (mg_rs n mb (mg_nF ax ay mx my mc k)) (nI g) n) mc)) H locs := by rw [mg_mv_0, mg_mv_0, mg_mv_0]; exact G
  refine lM_round2 C hk.2 hn (fun H locs ls G hl => ?_) 5 0 (by omega) (by omega) _ _ ls G (lv_sub hl [0, 2, 1] rfl)
  refine lv_iload_n hx hb dX1_round_105 rfl (lv_at hl 0 rfl) ?_
  exact mg_iret C () G rfl dX1_round_106
theorem iM_round {b : Nat → Nat} {cI cZ : ClassId} {ax ay mb sx sy mx my mc : AR} {n k : Nat} (C : mg_cx p s m args meth c cc ret nL RX1 A) (G : mg_wd D (mg_ty cI cZ) A s (wM b cI (nI n) (nI k) ax ay mb sx sy mx my mc) H locs) (hn : n ≤ 24) (hk : 1 ≤ k ∧ k ≤ 4) (hR : 3 + 1 ≤ R.frames ∧ 8 + (4 + 11) + 72 ≤ R.locals) (hf : cells ≤ R.cells ∧ slots ≤ R.slots) (hsz : ls.size = nL) (hrm : (rest.map fun v => v.category).sum ≤ 8) (hdg : decode cc pc = .ok (.invokevirtual 67, 3))
    (go : ∀ (r : Int32) (H1 : Heap) (locs1 : List Loc), (r = nI (mg_rR ax ay k n (mb, mx, my, mc))) → mg_wd D (mg_ty cI cZ) A s (wM b cI (nI n) (nI k) ax ay ((mg_rS ax ay k n (mb, mx, my, mc)).1) sx sy ((mg_rS ax ay k n (mb, mx, my, mc)).2.1) ((mg_rS ax ay k n (mb, mx, my, mc)).2.2.1) ((mg_rS ax ay k n (mb, mx, my, mc)).2.2.2)) H1 locs1 → W p l e R s m args below meth c H1 locs1 cells slots Q (F0 m (pc + 3) ls (.int r :: rest))) : W p l e R s m args below meth c H locs cells slots Q (F0 m pc ls (.ref (b 0) :: rest)) := by
  have hts := C.2.2.2.2.2.1
  exact mg_ci (mg_runV C G (kM_round l D b cI cZ ax ay mb sx sy mx my mc H.size n k hn hk) (cwV 0 hts (lw_V q234 q207 q208 q11 q209) rfl rfl rfl (by decide +kernel) hR) (ci := 1) rfl rfl rfl rfl hsz rfl hrm hdg hf) G.2.2.2 (mg_free C G) (fun r u H1 locs1 hp B => go r H1 locs1 hp (mg_whole C G B))
end GM3
end
section
/-! the model: settle, near; the component: measure, measureMiddles, farBeyond, isNearest -/
section GM4
variable {p : Program} {l : Launch} {e : Env} {R : Room} {s : State} {m : MethodId} {args : Array Value} {below : List Frame} {meth : Method} {c : Code} {H : Heap} {locs : List Loc} {cells slots : Nat} {Q : State → Prop}
variable {cc : ByteArray} {ret : Option FieldType} {nL : Nat} {own : String} {A : Nat → Prop} {D : va_G} {pc : Nat} {ls : Array Slot} {rest : List Value}

set_option maxHeartbeats 4000000 in
set_option maxRecDepth 100000 in
/-- settle, its loop: f rounds are left -/
theorem lM_settle1 {b : Nat → Nat} {cI cZ : ClassId} {ax ay sx sy : AR} {n k : Nat} {T : Nat × mg_St} (C : mg_cx p s m args meth c cX1_settle ret 3 RX1 A) (hn : n ≤ 24) (hk : 1 ≤ k ∧ k ≤ 4)
    (go : ∀ (H : Heap) (locs : List Loc) (ls : Array Slot), mg_wd D (mg_ty cI cZ) A s (wM b cI (nI n) (nI k) ax ay (T.2.1) sx sy (T.2.2.1) (T.2.2.2.1) (T.2.2.2.2)) H locs → lv_has ls 3 [(1, .int (nI T.1))] → W p l e (mg_R 4 95) s m args below meth c H locs 0 0 Q (F0 m 29 ls [])) :
    ∀ (f i : Nat) (t : mg_St) (d : Nat), i + f = 40 → d ≤ 24 → ((d = 0 ∧ (i, t) = T) ∨ (0 < d ∧ mg_st ax ay k n f i t = T)) → ∀ (H : Heap) (locs : List Loc) (ls : Array Slot), mg_wd D (mg_ty cI cZ) A s (wM b cI (nI n) (nI k) ax ay (t.1) sx sy (t.2.1) (t.2.2.1) (t.2.2.2)) H locs → lv_has ls 3 [(2, .int (nI d)), (1, .int (nI i)), (0, .ref (b 0))] → W p l e (mg_R 4 95) s m args below meth c H locs 0 0 Q (F0 m 8 ls []) := by
  obtain ⟨hx, hb, hr, hml, hown, hts, hlk, hA⟩ := id C
  intro f
  induction f with
  | zero =>
    intro i t d hi hd hT H locs ls G hl
    refine lv_iload_n hx hb dX1_settle_8 rfl (lv_at hl 0 rfl) ?_
    refine lv_if_le (tgt := 29) hx hb dX1_settle_9 (by decide) (fun h1 => ?_) (fun h1 => ?_)
    · have hd0 : d = 0 := by have := (nI_leI (a := d) (b := 0) (by omega) (by decide)).mp h1; omega
      rcases hT with ⟨-, rfl⟩ | ⟨h2, -⟩
      · exact go H locs ls G (lv_sub hl [1] rfl)
      · exact absurd h2 (by omega)
    · have hd0 : 0 < d := by rcases Nat.eq_zero_or_pos d with q | q; (subst q; exact absurd (by decide : nI 0 ≤ 0) h1); exact q
      rcases hT with ⟨h2, -⟩ | ⟨-, hT⟩
      · exact absurd h2 (by omega)
      subst hT
      refine lv_iload_n hx hb dX1_settle_12 rfl (lv_at hl 1 rfl) ?_
      refine lv_bipush (v := (nI 40)) hx hb dX1_settle_13 (by decide) ?_
      refine mg_ige (tgt := 29) hx hb (by omega) (by omega) dX1_settle_15 (by decide) (fun _ => ?_) (fun h => False.elim (by omega))
      exact go H locs ls G (lv_sub hl [1] rfl)
  | succ f ih =>
    intro i t d hi hd hT H locs ls G hl
    refine lv_iload_n hx hb dX1_settle_8 rfl (lv_at hl 0 rfl) ?_
    refine lv_if_le (tgt := 29) hx hb dX1_settle_9 (by decide) (fun h1 => ?_) (fun h1 => ?_)
    · have hd0 : d = 0 := by have := (nI_leI (a := d) (b := 0) (by omega) (by decide)).mp h1; omega
      rcases hT with ⟨-, rfl⟩ | ⟨h2, -⟩
      · exact go H locs ls G (lv_sub hl [1] rfl)
      · exact absurd h2 (by omega)
    · have hd0 : 0 < d := by rcases Nat.eq_zero_or_pos d with q | q; (subst q; exact absurd (by decide : nI 0 ≤ 0) h1); exact q
      rcases hT with ⟨h2, -⟩ | ⟨-, hT⟩
      · exact absurd h2 (by omega)
      refine lv_iload_n hx hb dX1_settle_12 rfl (lv_at hl 1 rfl) ?_
      refine lv_bipush (v := (nI 40)) hx hb dX1_settle_13 (by decide) ?_
      refine mg_ige (tgt := 29) hx hb (by omega) (by omega) dX1_settle_15 (by decide) (fun h => False.elim (by omega)) (fun _ => ?_)
      refine lv_aload_n hx hb dX1_settle_18 rfl (lv_at hl 2 rfl) ?_
      refine iM_round C G hn hk ⟨Nat.le_of_ble_eq_true rfl, Nat.le_of_ble_eq_true rfl⟩ ⟨Nat.zero_le _, Nat.zero_le _⟩ hl.1 (Nat.le_of_ble_eq_true rfl) dX1_settle_19 (fun r1 H locs hr1 G => ?_)
      subst hr1
      refine lv_istore_n (lv' := [(2, _), (1, _), (0, _)]) hx hb dX1_settle_22 rfl hl (by decide) rfl (fun ls hl => ?_)
      refine lv_iinc (lv' := [(1, _), (2, _), (0, _)]) hx hb dX1_settle_23 hl (k := 1) rfl (mg_inc _) (by decide) rfl (fun ls hl => ?_)
      refine lv_goto (tgt := 8) hx hb dX1_settle_26 (by decide) ?_
      have hle : mg_rR ax ay k n t ≤ 24 := Nat.le_trans (mg_ch_le _ _ _ _ _ _ _ _) hn
      refine ih (i + 1) (mg_rS ax ay k n t) (mg_rR ax ay k n t) (by omega) hle ?_ H locs ls G (lv_sub hl [1, 0, 2] rfl)
      rcases Nat.eq_zero_or_pos (mg_rR ax ay k n t) with q | q
      · exact Or.inl ⟨q, by rw [← hT]; exact (if_pos q).symm⟩
      · exact Or.inr ⟨q, by rw [← hT]; exact (if_neg (by omega)).symm⟩
set_option maxHeartbeats 4000000 in
set_option maxRecDepth 100000 in
/-- settle() -/
theorem kM_settle (l : Launch) (D : va_G) (b : Nat → Nat) (cI cZ : ClassId) (ax ay mb sx sy mx my mc : AR) (sz : Nat) (n k : Nat) (hn : n ≤ 24) (hk : 1 ≤ k ∧ k ≤ 4) : Met l yX1_settle (ws_ yX1_settle cX1_settle 3 (some .int)) (mg_R 4 95) (va_Pc [.ref (b 0)] (mg_pre D (mg_ty cI cZ) (wM b cI (nI n) (nI k) ax ay mb sx sy mx my mc) sz)) (va_Qi (fun (r : Int32) (u : Unit) => r = nI (mg_st ax ay k n 40 0 (mg_rs 24 mb mg_om, mg_rs 4 mx sx, mg_rs 4 my sy, mg_rs 4 mc mg_o1)).1) (mg_bk D (mg_ty cI cZ) (fun (u : Unit) => wM b cI (nI n) (nI k) ax ay ((mg_st ax ay k n 40 0 (mg_rs 24 mb mg_om, mg_rs 4 mx sx, mg_rs 4 my sy, mg_rs 4 mc mg_o1)).2.1) sx sy ((mg_st ax ay k n 40 0 (mg_rs 24 mb mg_om, mg_rs 4 mx sx, mg_rs 4 my sy, mg_rs 4 mc mg_o1)).2.2.1) ((mg_st ax ay k n 40 0 (mg_rs 24 mb mg_om, mg_rs 4 mx sx, mg_rs 4 my sy, mg_rs 4 mc mg_o1)).2.2.2.1) ((mg_st ax ay k n 40 0 (mg_rs 24 mb mg_om, mg_rs 4 mx sx, mg_rs 4 my sy, mg_rs 4 mc mg_o1)).2.2.2.2)) (va_A (wM b cI (nI n) (nI k) ax ay mb sx sy mx my mc) sz)) (va_A (wM b cI (nI n) (nI k) ax ay mb sx sy mx my mc) sz)) 0 0 (va_A (wM b cI (nI n) (nI k) ax ay mb sx sy mx my mc) sz) := by
  refine mg_meti (by decide) (Nat.le_of_ble_eq_true rfl) ?_
  intro p e s m below meth c A ls C hin G hl
  have C : mg_cx p s m _ meth c cX1_settle (some .int) 3 RX1 A := C
  obtain ⟨hx, hb, hr, hml, hown, hts, hlk, hA⟩ := id C
  have hl : lv_has ls 3 [(0, _)] := hl
  refine lv_aload_n hx hb dX1_settle_0 rfl (lv_at hl 0 rfl) ?_
  refine iM_reset C G  ⟨Nat.le_of_ble_eq_true rfl, Nat.le_of_ble_eq_true rfl⟩ ⟨Nat.zero_le _, Nat.zero_le _⟩ hl.1 (Nat.le_of_ble_eq_true rfl) dX1_settle_1 (fun H locs G => ?_)
  refine lv_iconst (v := (nI 0)) hx hb dX1_settle_4 (by decide) ?_
  refine lv_istore_n (lv' := [(1, _), (0, _)]) hx hb dX1_settle_5 rfl hl (by decide) rfl (fun ls hl => ?_)
  refine lv_iconst (v := (nI 1)) hx hb dX1_settle_6 (by decide) ?_
  refine lv_istore_n (lv' := [(2, _), (1, _), (0, _)]) hx hb dX1_settle_7 rfl hl (by decide) rfl (fun ls hl => ?_)
  refine lM_settle1 (T := (mg_st ax ay k n 40 0 (mg_rs 24 mb mg_om, mg_rs 4 mx sx, mg_rs 4 my sy, mg_rs 4 mc mg_o1))) C hn hk (fun H locs ls G hl => ?_) 40 0 (mg_rs 24 mb mg_om, mg_rs 4 mx sx, mg_rs 4 my sy, mg_rs 4 mc mg_o1) 1 (by omega) (by omega) (Or.inr ⟨by decide, rfl⟩) _ _ ls G (lv_sub hl [0, 1, 2] rfl)
  refine lv_iload_n hx hb dX1_settle_29 rfl (lv_at hl 0 rfl) ?_
  exact mg_iret C () G rfl dX1_settle_30
set_option maxHeartbeats 4000000 in
set_option maxRecDepth 100000 in
/-- near, a loop -/
theorem lM_near1 {b : Nat → Nat} {cI cZ : ClassId} {ax ay mb sx sy mx my mc : AR} {N k g : Nat} (C : mg_cx p s m args meth c cX1_near ret 5 RX1 A) (hN : N ≤ 24) (hk : 1 ≤ k ∧ k ≤ 4) (hg : g < 4)
    (go : ∀ (H : Heap) (locs : List Loc) (ls : Array Slot), mg_wd D (mg_ty cI cZ) A s (wM b cI (nI N) (nI k) ax ay mb sx sy mx my mc) H locs → lv_has ls 5 [(2, .int (nI (mg_nc ax ay mx my mc k g N)))] → W p l e (mg_R 3 72) s m args below meth c H locs 0 0 Q (F0 m 53 ls [])) :
    ∀ (n i : Nat) , i ≤ N → N < i + n → ∀ (H : Heap) (locs : List Loc) (ls : Array Slot), mg_wd D (mg_ty cI cZ) A s (wM b cI (nI N) (nI k) ax ay mb sx sy mx my mc) H locs → lv_has ls 5 [(2, .int (nI (mg_nc ax ay mx my mc k g i))), (3, .int (nI i)), (0, .ref (b 0)), (1, .int (nI g))] → W p l e (mg_R 3 72) s m args below meth c H locs 0 0 Q (F0 m 18 ls []) := by
  obtain ⟨hx, hb, hr, hml, hown, hts, hlk, hA⟩ := id C
  intro n
  induction n with
  | zero => intro i h1 h2; exact absurd h2 (by omega)
  | succ n ih =>
    intro i hi hin  H locs ls G hl
    have hle := mg_nr_le ax ay mx my mc i (k - 1)
    refine lv_iload_n hx hb dX1_near_18 rfl (lv_at hl 1 rfl) ?_
    refine lv_aload_n hx hb dX1_near_19 rfl (lv_at hl 2 rfl) ?_
    refine gM_pt C G dX1_near_20 ?_
    refine mg_ige (tgt := 53) hx hb (by omega) (by omega) dX1_near_23 (by decide) (fun h => ?_) (fun h => ?_)
    · obtain rfl : i = N := by omega
      exact go H locs ls G (lv_sub hl [0] rfl)
    · refine lv_aload_n hx hb dX1_near_26 rfl (lv_at hl 2 rfl) ?_
      refine lv_iload_n hx hb dX1_near_27 rfl (lv_at hl 1 rfl) ?_
      refine iM_nearest C G hk (by omega) ⟨Nat.le_of_ble_eq_true rfl, Nat.le_of_ble_eq_true rfl⟩ ⟨Nat.zero_le _, Nat.zero_le _⟩ hl.1 (Nat.le_of_ble_eq_true rfl) dX1_near_28 (fun r1 H locs hr1 G => ?_)
      subst hr1
      refine lv_istore (lv' := [(4, _), (2, _), (3, _), (0, _), (1, _)]) hx hb dX1_near_31 hl (by decide) rfl (fun ls hl => ?_)
      refine lv_aload_n hx hb dX1_near_33 rfl (lv_at hl 3 rfl) ?_
      refine lv_iload_n hx hb dX1_near_34 rfl (lv_at hl 2 rfl) ?_
      refine lv_iload hx hb dX1_near_35 (lv_at hl 0 rfl) ?_
      refine lv_iload_n hx hb dX1_near_37 rfl (lv_at hl 4 rfl) ?_
      refine iM_nearer C G (by omega) (by omega) hg ⟨Nat.le_of_ble_eq_true rfl, Nat.le_of_ble_eq_true rfl⟩ ⟨Nat.zero_le _, Nat.zero_le _⟩ hl.1 (Nat.le_of_ble_eq_true rfl) dX1_near_38 (fun r2 H locs hr2 G => ?_)
      refine lv_if_ne (tgt := 47) hx hb dX1_near_41 (by decide) (fun h1 => ?_) (fun h1 => ?_)
      · refine lv_iinc (lv' := [(3, _), (4, _), (2, _), (0, _), (1, _)]) hx hb dX1_near_47 hl (k := 2) rfl (mg_inc _) (by decide) rfl (fun ls hl => ?_)
        refine lv_goto (tgt := 18) hx hb dX1_near_50 (by decide) ?_
        exact ih (i + 1) (by omega) (by omega) H locs ls G (by rw [show mg_nc ax ay mx my mc k g (i + 1) = _ from if_pos (mg_b1 hr2 h1)]; exact lv_sub hl [2, 0, 3, 4] rfl)
      · refine lv_iinc (lv' := [(2, _), (4, _), (3, _), (0, _), (1, _)]) hx hb dX1_near_44 hl (k := 1) rfl (mg_inc _) (by decide) rfl (fun ls hl => ?_)
        refine lv_iinc (lv' := [(3, _), (2, _), (4, _), (0, _), (1, _)]) hx hb dX1_near_47 hl (k := 2) rfl (mg_inc _) (by decide) rfl (fun ls hl => ?_)
        refine lv_goto (tgt := 18) hx hb dX1_near_50 (by decide) ?_
        exact ih (i + 1) (by omega) (by omega) H locs ls G (by rw [show mg_nc ax ay mx my mc k g (i + 1) = _ from if_neg (mg_b0 hr2 h1)]; exact lv_sub hl [1, 0, 3, 4] rfl)
set_option maxHeartbeats 4000000 in
set_option maxRecDepth 100000 in
/-- near(group) -/
theorem kM_near (l : Launch) (D : va_G) (b : Nat → Nat) (cI cZ : ClassId) (ax ay mb sx sy mx my mc : AR) (sz : Nat) (n k : Nat) (v : Int32) (hn : n ≤ 24) (hk : 1 ≤ k ∧ k ≤ 4) : Met l yX1_near (ws_ yX1_near cX1_near 5 (some .int)) (mg_R 3 72) (va_Pc [.ref (b 0), .int v] (mg_pre D (mg_ty cI cZ) (wM b cI (nI n) (nI k) ax ay mb sx sy mx my mc) sz)) (va_Qi (fun (r : Int32) (u : Unit) => r = if ¬ v < 0 ∧ v < nI k then nI (mg_nc ax ay mx my mc k v.toNatClampNeg n) else -1) (mg_bk D (mg_ty cI cZ) (fun (u : Unit) => wM b cI (nI n) (nI k) ax ay mb sx sy mx my mc) (va_A (wM b cI (nI n) (nI k) ax ay mb sx sy mx my mc) sz)) (va_A (wM b cI (nI n) (nI k) ax ay mb sx sy mx my mc) sz)) 0 0 (va_A (wM b cI (nI n) (nI k) ax ay mb sx sy mx my mc) sz) := by
  refine mg_meti (by decide) (Nat.le_of_ble_eq_true rfl) ?_
  intro p e s m below meth c A ls C hin G hl
  have C : mg_cx p s m _ meth c cX1_near (some .int) 5 RX1 A := C
  obtain ⟨hx, hb, hr, hml, hown, hts, hlk, hA⟩ := id C
  have hl : lv_has ls 5 [(0, _), (1, _)] := hl
  refine lv_iload_n hx hb dX1_near_0 rfl (lv_at hl 1 rfl) ?_
  refine lv_if_lt (tgt := 12) hx hb dX1_near_1 (by decide) (fun h1 => ?_) (fun h1 => ?_)
  · refine lv_iconst (v := (-1)) hx hb dX1_near_12 (by decide) ?_
    exact mg_iret C () G (if_neg (fun q => q.1 h1)).symm dX1_near_13
  · refine lv_iload_n hx hb dX1_near_4 rfl (lv_at hl 1 rfl) ?_
    refine lv_aload_n hx hb dX1_near_5 rfl (lv_at hl 0 rfl) ?_
    refine gM_kk C G dX1_near_6 ?_
    refine lv_icmp_lt (tgt := 14) hx hb dX1_near_9 (by decide) (fun h2 => ?_) (fun h2 => ?_)
    · obtain ⟨j, hj, rfl⟩ := nI_of h1
      have hjn : j < k := (nI_ltI hj (by omega)).mp h2
      refine lv_iconst (v := (nI (mg_nc ax ay mx my mc k j 0))) hx hb dX1_near_14 rfl ?_
      refine lv_istore_n (lv' := [(2, _), (0, _), (1, _)]) hx hb dX1_near_15 rfl hl (by decide) rfl (fun ls hl => ?_)
      refine lv_iconst (v := (nI 0)) hx hb dX1_near_16 (by decide) ?_
      refine lv_istore_n (lv' := [(3, _), (2, _), (0, _), (1, _)]) hx hb dX1_near_17 rfl hl (by decide) rfl (fun ls hl => ?_)
      refine lM_near1 C hn hk (by omega) (fun H locs ls G hl => ?_) 25 0 (by omega) (by omega) _ _ ls G (lv_sub hl [1, 0, 2, 3] rfl)
      refine lv_iload_n hx hb dX1_near_53 rfl (lv_at hl 0 rfl) ?_
      exact mg_iret C () G (by rw [if_pos ⟨h1, h2⟩, nI_clamp hj]) dX1_near_54
    · refine lv_iconst (v := (-1)) hx hb dX1_near_12 (by decide) ?_
      exact mg_iret C () G (if_neg (fun q => h2 q.2)).symm dX1_near_13
set_option maxHeartbeats 4000000 in
set_option maxRecDepth 100000 in
/-- measure(p, g) -/
theorem kX_measure (l : Launch) (D : va_G) (a : Nat → Nat) (cI cZ : ClassId) (pt kk : Int32) (ax ay sx sy mx my mc mv mb qx qy qc : AR) (up lo : Int64) (sz : Nat) (pp g : Nat) (hp : pp < 24) (hg : g < 4) : Met l yX0_measure (ws_ yX0_measure cX0_measure 7 none) (mg_R 0 0) (va_Pc [.ref (a 0), .int (nI pp), .int (nI g)] (mg_pre D (mg_ty cI cZ) (wX a cI cZ pt kk ax ay sx sy mx my mc mv mb qx qy qc up lo) sz)) (va_Qv (fun (u : Unit) => True) (mg_bk D (mg_ty cI cZ) (fun (u : Unit) => wX a cI cZ pt kk ax ay sx sy mx my mc mv mb qx qy qc (mg_up ax ay mx my mc pp g) (mg_lo mc g)) (va_A (wX a cI cZ pt kk ax ay sx sy mx my mc mv mb qx qy qc up lo) sz)) (va_A (wX a cI cZ pt kk ax ay sx sy mx my mc mv mb qx qy qc up lo) sz)) 0 0 (va_A (wX a cI cZ pt kk ax ay sx sy mx my mc mv mb qx qy qc up lo) sz) := by
  refine mg_metv (by decide) (Nat.le_of_ble_eq_true rfl) ?_
  intro p e s m below meth c A ls C hin G hl
  have C : mg_cx p s m _ meth c cX0_measure none 7 RX0 A := C
  obtain ⟨hx, hb, hr, hml, hown, hts, hlk, hA⟩ := id C
  have hl : lv_has ls 7 [(0, _), (1, _), (2, _)] := hl
  refine lv_aload_n hx hb dX0_measure_0 rfl (lv_at hl 0 rfl) ?_
  refine gX_mc C G dX0_measure_1 ?_
  refine lv_iload_n hx hb dX0_measure_4 rfl (lv_at hl 2 rfl) ?_
  refine lX_mc C G (by omega) dX0_measure_5 ?_
  refine lv_i2l hx hb dX0_measure_6 rfl ?_
  refine lv_aload_n hx hb dX0_measure_7 rfl (lv_at hl 0 rfl) ?_
  refine gX_ax C G dX0_measure_8 ?_
  refine lv_iload_n hx hb dX0_measure_11 rfl (lv_at hl 1 rfl) ?_
  refine lX_ax C G (by omega) dX0_measure_12 ?_
  refine lv_i2l hx hb dX0_measure_13 rfl ?_
  refine lv_lmul hx hb dX0_measure_14 ?_
  refine lv_aload_n hx hb dX0_measure_15 rfl (lv_at hl 0 rfl) ?_
  refine gX_mx C G dX0_measure_16 ?_
  refine lv_iload_n hx hb dX0_measure_19 rfl (lv_at hl 2 rfl) ?_
  refine lX_mx C G (by omega) dX0_measure_20 ?_
  refine lv_i2l hx hb dX0_measure_21 rfl ?_
  refine lv_lsub hx hb dX0_measure_22 ?_
  refine lv_lstore_n (lv' := [(3, _), (0, _), (1, _), (2, _)]) hx hb dX0_measure_23 rfl hl (by decide) rfl (fun ls hl => ?_)
  refine lv_aload_n hx hb dX0_measure_24 rfl (lv_at hl 1 rfl) ?_
  refine gX_mc C G dX0_measure_25 ?_
  refine lv_iload_n hx hb dX0_measure_28 rfl (lv_at hl 3 rfl) ?_
  refine lX_mc C G (by omega) dX0_measure_29 ?_
  refine lv_i2l hx hb dX0_measure_30 rfl ?_
  refine lv_aload_n hx hb dX0_measure_31 rfl (lv_at hl 1 rfl) ?_
  refine gX_ay C G dX0_measure_32 ?_
  refine lv_iload_n hx hb dX0_measure_35 rfl (lv_at hl 2 rfl) ?_
  refine lX_ay C G (by omega) dX0_measure_36 ?_
  refine lv_i2l hx hb dX0_measure_37 rfl ?_
  refine lv_lmul hx hb dX0_measure_38 ?_
  refine lv_aload_n hx hb dX0_measure_39 rfl (lv_at hl 1 rfl) ?_
  refine gX_my C G dX0_measure_40 ?_
  refine lv_iload_n hx hb dX0_measure_43 rfl (lv_at hl 3 rfl) ?_
  refine lX_my C G (by omega) dX0_measure_44 ?_
  refine lv_i2l hx hb dX0_measure_45 rfl ?_
  refine lv_lsub hx hb dX0_measure_46 ?_
  refine lv_lstore (lv' := [(5, _), (3, _), (0, _), (1, _), (2, _)]) hx hb dX0_measure_47 hl (by decide) rfl (fun ls hl => ?_)
  refine lv_aload_n hx hb dX0_measure_49 rfl (lv_at hl 2 rfl) ?_
  refine lv_lload_n hx hb dX0_measure_50 rfl (lv_at hl 1 rfl) ?_
  refine lv_lload_n hx hb dX0_measure_51 rfl (lv_at hl 1 rfl) ?_
  refine lv_lmul hx hb dX0_measure_52 ?_
  refine lv_lload hx hb dX0_measure_53 (lv_at hl 0 rfl) ?_
  refine lv_lload hx hb dX0_measure_55 (lv_at hl 0 rfl) ?_
  refine lv_lmul hx hb dX0_measure_57 ?_
  refine lv_ladd hx hb dX0_measure_58 ?_
  refine pX_up C G dX0_measure_59 (fun H locs G => ?_)
  refine lv_aload_n hx hb dX0_measure_62 rfl (lv_at hl 2 rfl) ?_
  refine lv_aload_n hx hb dX0_measure_63 rfl (lv_at hl 2 rfl) ?_
  refine gX_mc C G dX0_measure_64 ?_
  refine lv_iload_n hx hb dX0_measure_67 rfl (lv_at hl 4 rfl) ?_
  refine lX_mc C G (by omega) dX0_measure_68 ?_
  refine lv_i2l hx hb dX0_measure_69 rfl ?_
  refine lv_aload_n hx hb dX0_measure_70 rfl (lv_at hl 2 rfl) ?_
  refine gX_mc C G dX0_measure_71 ?_
  refine lv_iload_n hx hb dX0_measure_74 rfl (lv_at hl 4 rfl) ?_
  refine lX_mc C G (by omega) dX0_measure_75 ?_
  refine lv_i2l hx hb dX0_measure_76 rfl ?_
  refine lv_lmul hx hb dX0_measure_77 ?_
  refine pX_lo C G dX0_measure_78 (fun H locs G => ?_)
  exact mg_vret C () G trivial dX0_measure_81
theorem iX_measure {a : Nat → Nat} {cI cZ : ClassId} {pt kk : Int32} {ax ay sx sy mx my mc mv mb qx qy qc : AR} {up lo : Int64} {pp g : Nat} (C : mg_cx p s m args meth c cc ret nL RX0 A) (G : mg_wd D (mg_ty cI cZ) A s (wX a cI cZ pt kk ax ay sx sy mx my mc mv mb qx qy qc up lo) H locs) (hp : pp < 24) (hg : g < 4) (hR : 0 + 1 ≤ R.frames ∧ 8 + (7 + 11) + 0 ≤ R.locals) (hf : cells ≤ R.cells ∧ slots ≤ R.slots) (hsz : ls.size = nL) (hrm : (rest.map fun v => v.category).sum ≤ 8) (hdg : decode cc pc = .ok (.invokevirtual 83, 3))
    (go : ∀ (H1 : Heap) (locs1 : List Loc), mg_wd D (mg_ty cI cZ) A s (wX a cI cZ pt kk ax ay sx sy mx my mc mv mb qx qy qc (mg_up ax ay mx my mc pp g) (mg_lo mc g)) H1 locs1 → W p l e R s m args below meth c H1 locs1 cells slots Q (F0 m (pc + 3) ls (rest))) : W p l e R s m args below meth c H locs cells slots Q (F0 m pc ls (.int (nI g) :: .int (nI pp) :: .ref (a 0) :: rest)) := by
  have hts := C.2.2.2.2.2.1
  exact mg_cv (mg_runV C G (kX_measure l D a cI cZ pt kk ax ay sx sy mx my mc mv mb qx qy qc up lo H.size pp g hp hg) (cwV 2 hts (lw_V q103 q105 qs1 q10 q106) rfl rfl rfl (by decide +kernel) hR) (ci := 0) rfl rfl rfl rfl hsz rfl hrm hdg hf) G.2.2.2 (mg_free C G) (fun u H1 locs1 hp B => go H1 locs1 (mg_whole C G B))
set_option maxHeartbeats 4000000 in
set_option maxRecDepth 100000 in
/-- measureMiddles(g, h) -/
theorem kX_measureMiddles (l : Launch) (D : va_G) (a : Nat → Nat) (cI cZ : ClassId) (pt kk : Int32) (ax ay sx sy mx my mc mv mb qx qy qc : AR) (up lo : Int64) (sz : Nat) (g h : Nat) (hg : g < 4) (hh : h < 4) : Met l yX0_measureMiddles (ws_ yX0_measureMiddles cX0_measureMiddles 9 none) (mg_R 0 0) (va_Pc [.ref (a 0), .int (nI g), .int (nI h)] (mg_pre D (mg_ty cI cZ) (wX a cI cZ pt kk ax ay sx sy mx my mc mv mb qx qy qc up lo) sz)) (va_Qv (fun (u : Unit) => True) (mg_bk D (mg_ty cI cZ) (fun (u : Unit) => wX a cI cZ pt kk ax ay sx sy mx my mc mv mb qx qy qc (mg_uM mx my mc g h) (mg_lM mc g h)) (va_A (wX a cI cZ pt kk ax ay sx sy mx my mc mv mb qx qy qc up lo) sz)) (va_A (wX a cI cZ pt kk ax ay sx sy mx my mc mv mb qx qy qc up lo) sz)) 0 0 (va_A (wX a cI cZ pt kk ax ay sx sy mx my mc mv mb qx qy qc up lo) sz) := by
  refine mg_metv (by decide) (Nat.le_of_ble_eq_true rfl) ?_
  intro p e s m below meth c A ls C hin G hl
  have C : mg_cx p s m _ meth c cX0_measureMiddles none 9 RX0 A := C
  obtain ⟨hx, hb, hr, hml, hown, hts, hlk, hA⟩ := id C
  have hl : lv_has ls 9 [(0, _), (1, _), (2, _)] := hl
  refine lv_aload_n hx hb dX0_measureMiddles_0 rfl (lv_at hl 0 rfl) ?_
  refine gX_mx C G dX0_measureMiddles_1 ?_
  refine lv_iload_n hx hb dX0_measureMiddles_4 rfl (lv_at hl 1 rfl) ?_
  refine lX_mx C G (by omega) dX0_measureMiddles_5 ?_
  refine lv_i2l hx hb dX0_measureMiddles_6 rfl ?_
  refine lv_aload_n hx hb dX0_measureMiddles_7 rfl (lv_at hl 0 rfl) ?_
  refine gX_mc C G dX0_measureMiddles_8 ?_
  refine lv_iload_n hx hb dX0_measureMiddles_11 rfl (lv_at hl 2 rfl) ?_
  refine lX_mc C G (by omega) dX0_measureMiddles_12 ?_
  refine lv_i2l hx hb dX0_measureMiddles_13 rfl ?_
  refine lv_lmul hx hb dX0_measureMiddles_14 ?_
  refine lv_aload_n hx hb dX0_measureMiddles_15 rfl (lv_at hl 0 rfl) ?_
  refine gX_mx C G dX0_measureMiddles_16 ?_
  refine lv_iload_n hx hb dX0_measureMiddles_19 rfl (lv_at hl 2 rfl) ?_
  refine lX_mx C G (by omega) dX0_measureMiddles_20 ?_
  refine lv_i2l hx hb dX0_measureMiddles_21 rfl ?_
  refine lv_aload_n hx hb dX0_measureMiddles_22 rfl (lv_at hl 0 rfl) ?_
  refine gX_mc C G dX0_measureMiddles_23 ?_
  refine lv_iload_n hx hb dX0_measureMiddles_26 rfl (lv_at hl 1 rfl) ?_
  refine lX_mc C G (by omega) dX0_measureMiddles_27 ?_
  refine lv_i2l hx hb dX0_measureMiddles_28 rfl ?_
  refine lv_lmul hx hb dX0_measureMiddles_29 ?_
  refine lv_lsub hx hb dX0_measureMiddles_30 ?_
  refine lv_lstore_n (lv' := [(3, _), (0, _), (1, _), (2, _)]) hx hb dX0_measureMiddles_31 rfl hl (by decide) rfl (fun ls hl => ?_)
  refine lv_aload_n hx hb dX0_measureMiddles_32 rfl (lv_at hl 1 rfl) ?_
  refine gX_my C G dX0_measureMiddles_33 ?_
  refine lv_iload_n hx hb dX0_measureMiddles_36 rfl (lv_at hl 2 rfl) ?_
  refine lX_my C G (by omega) dX0_measureMiddles_37 ?_
  refine lv_i2l hx hb dX0_measureMiddles_38 rfl ?_
  refine lv_aload_n hx hb dX0_measureMiddles_39 rfl (lv_at hl 1 rfl) ?_
  refine gX_mc C G dX0_measureMiddles_40 ?_
  refine lv_iload_n hx hb dX0_measureMiddles_43 rfl (lv_at hl 3 rfl) ?_
  refine lX_mc C G (by omega) dX0_measureMiddles_44 ?_
  refine lv_i2l hx hb dX0_measureMiddles_45 rfl ?_
  refine lv_lmul hx hb dX0_measureMiddles_46 ?_
  refine lv_aload_n hx hb dX0_measureMiddles_47 rfl (lv_at hl 1 rfl) ?_
  refine gX_my C G dX0_measureMiddles_48 ?_
  refine lv_iload_n hx hb dX0_measureMiddles_51 rfl (lv_at hl 3 rfl) ?_
  refine lX_my C G (by omega) dX0_measureMiddles_52 ?_
  refine lv_i2l hx hb dX0_measureMiddles_53 rfl ?_
  refine lv_aload_n hx hb dX0_measureMiddles_54 rfl (lv_at hl 1 rfl) ?_
  refine gX_mc C G dX0_measureMiddles_55 ?_
  refine lv_iload_n hx hb dX0_measureMiddles_58 rfl (lv_at hl 2 rfl) ?_
  refine lX_mc C G (by omega) dX0_measureMiddles_59 ?_
  refine lv_i2l hx hb dX0_measureMiddles_60 rfl ?_
  refine lv_lmul hx hb dX0_measureMiddles_61 ?_
  refine lv_lsub hx hb dX0_measureMiddles_62 ?_
  refine lv_lstore (lv' := [(5, _), (3, _), (0, _), (1, _), (2, _)]) hx hb dX0_measureMiddles_63 hl (by decide) rfl (fun ls hl => ?_)
  refine lv_aload_n hx hb dX0_measureMiddles_65 rfl (lv_at hl 2 rfl) ?_
  refine lv_lload_n hx hb dX0_measureMiddles_66 rfl (lv_at hl 1 rfl) ?_
  refine lv_lload_n hx hb dX0_measureMiddles_67 rfl (lv_at hl 1 rfl) ?_
  refine lv_lmul hx hb dX0_measureMiddles_68 ?_
  refine lv_lload hx hb dX0_measureMiddles_69 (lv_at hl 0 rfl) ?_
  refine lv_lload hx hb dX0_measureMiddles_71 (lv_at hl 0 rfl) ?_
  refine lv_lmul hx hb dX0_measureMiddles_73 ?_
  refine lv_ladd hx hb dX0_measureMiddles_74 ?_
  refine pX_up C G dX0_measureMiddles_75 (fun H locs G => ?_)
  refine lv_aload_n hx hb dX0_measureMiddles_78 rfl (lv_at hl 2 rfl) ?_
  refine gX_mc C G dX0_measureMiddles_79 ?_
  refine lv_iload_n hx hb dX0_measureMiddles_82 rfl (lv_at hl 3 rfl) ?_
  refine lX_mc C G (by omega) dX0_measureMiddles_83 ?_
  refine lv_i2l hx hb dX0_measureMiddles_84 rfl ?_
  refine lv_aload_n hx hb dX0_measureMiddles_85 rfl (lv_at hl 2 rfl) ?_
  refine gX_mc C G dX0_measureMiddles_86 ?_
  refine lv_iload_n hx hb dX0_measureMiddles_89 rfl (lv_at hl 4 rfl) ?_
  refine lX_mc C G (by omega) dX0_measureMiddles_90 ?_
  refine lv_i2l hx hb dX0_measureMiddles_91 rfl ?_
  refine lv_lmul hx hb dX0_measureMiddles_92 ?_
  refine lv_lstore (lv' := [(7, _), (5, _), (3, _), (0, _), (1, _), (2, _)]) hx hb dX0_measureMiddles_93 hl (by decide) rfl (fun ls hl => ?_)
  refine lv_aload_n hx hb dX0_measureMiddles_95 rfl (lv_at hl 3 rfl) ?_
  refine lv_lload hx hb dX0_measureMiddles_96 (lv_at hl 0 rfl) ?_
  refine lv_lload hx hb dX0_measureMiddles_98 (lv_at hl 0 rfl) ?_
  refine lv_lmul hx hb dX0_measureMiddles_100 ?_
  refine pX_lo C G dX0_measureMiddles_101 (fun H locs G => ?_)
  exact mg_vret C () G trivial dX0_measureMiddles_104
theorem iX_measureMiddles {a : Nat → Nat} {cI cZ : ClassId} {pt kk : Int32} {ax ay sx sy mx my mc mv mb qx qy qc : AR} {up lo : Int64} {g h : Nat} (C : mg_cx p s m args meth c cc ret nL RX0 A) (G : mg_wd D (mg_ty cI cZ) A s (wX a cI cZ pt kk ax ay sx sy mx my mc mv mb qx qy qc up lo) H locs) (hg : g < 4) (hh : h < 4) (hR : 0 + 1 ≤ R.frames ∧ 8 + (9 + 11) + 0 ≤ R.locals) (hf : cells ≤ R.cells ∧ slots ≤ R.slots) (hsz : ls.size = nL) (hrm : (rest.map fun v => v.category).sum ≤ 8) (hdg : decode cc pc = .ok (.invokevirtual 91, 3))
    (go : ∀ (H1 : Heap) (locs1 : List Loc), mg_wd D (mg_ty cI cZ) A s (wX a cI cZ pt kk ax ay sx sy mx my mc mv mb qx qy qc (mg_uM mx my mc g h) (mg_lM mc g h)) H1 locs1 → W p l e R s m args below meth c H1 locs1 cells slots Q (F0 m (pc + 3) ls (rest))) : W p l e R s m args below meth c H locs cells slots Q (F0 m pc ls (.int (nI h) :: .int (nI g) :: .ref (a 0) :: rest)) := by
  have hts := C.2.2.2.2.2.1
  exact mg_cv (mg_runV C G (kX_measureMiddles l D a cI cZ pt kk ax ay sx sy mx my mc mv mb qx qy qc up lo H.size g h hg hh) (cwV 2 hts (lw_V q111 q113 qs3 q10 q114) rfl rfl rfl (by decide +kernel) hR) (ci := 0) rfl rfl rfl rfl hsz rfl hrm hdg hf) G.2.2.2 (mg_free C G) (fun u H1 locs1 hp B => go H1 locs1 (mg_whole C G B))
set_option maxHeartbeats 4000000 in
set_option maxRecDepth 100000 in
/-- farBeyond(best, g, bestUpper, bestLower) -/
theorem kX_farBeyond (l : Launch) (D : va_G) (a : Nat → Nat) (cI cZ : ClassId) (pt kk : Int32) (ax ay sx sy mx my mc mv mb qx qy qc : AR) (up lo : Int64) (sz : Nat) (g h : Nat) (bu bl : Int64) (hg : g < 4) (hh : h < 4) : Met l yX0_farBeyond (ws_ yX0_farBeyond cX0_farBeyond 7 (some .boolean)) (mg_R 1 28) (va_Pc [.ref (a 0), .int (nI g), .int (nI h), .long bu, .long bl] (mg_pre D (mg_ty cI cZ) (wX a cI cZ pt kk ax ay sx sy mx my mc mv mb qx qy qc up lo) sz)) (va_Qi (fun (r : Int32) (u : Unit) => r = if mg_fB mx my mc g h bu bl then 1 else 0) (mg_bk D (mg_ty cI cZ) (fun (u : Unit) => wX a cI cZ pt kk ax ay sx sy mx my mc mv mb qx qy qc (mg_uM mx my mc g h) (mg_lM mc g h)) (va_A (wX a cI cZ pt kk ax ay sx sy mx my mc mv mb qx qy qc up lo) sz)) (va_A (wX a cI cZ pt kk ax ay sx sy mx my mc mv mb qx qy qc up lo) sz)) 0 0 (va_A (wX a cI cZ pt kk ax ay sx sy mx my mc mv mb qx qy qc up lo) sz) := by
  refine mg_meti (by decide) (Nat.le_of_ble_eq_true rfl) ?_
  intro p e s m below meth c A ls C hin G hl
  have C : mg_cx p s m _ meth c cX0_farBeyond (some .boolean) 7 RX0 A := C
  obtain ⟨hx, hb, hr, hml, hown, hts, hlk, hA⟩ := id C
  have hl : lv_has ls 7 [(0, _), (1, _), (2, _), (3, _), (5, _)] := hl
  refine lv_aload_n hx hb dX0_farBeyond_0 rfl (lv_at hl 0 rfl) ?_
  refine lv_iload_n hx hb dX0_farBeyond_1 rfl (lv_at hl 1 rfl) ?_
  refine lv_iload_n hx hb dX0_farBeyond_2 rfl (lv_at hl 2 rfl) ?_
  refine iX_measureMiddles C G hg hh ⟨Nat.le_of_ble_eq_true rfl, Nat.le_of_ble_eq_true rfl⟩ ⟨Nat.zero_le _, Nat.zero_le _⟩ hl.1 (Nat.le_of_ble_eq_true rfl) dX0_farBeyond_3 (fun H locs G => ?_)
  refine lv_ldc2 (v := 4) hx hb hown (hts _ q115) dX0_farBeyond_6 ?_
  refine lv_lload_n hx hb dX0_farBeyond_9 rfl (lv_at hl 3 rfl) ?_
  refine lv_lmul hx hb dX0_farBeyond_10 ?_
  refine lv_aload_n hx hb dX0_farBeyond_11 rfl (lv_at hl 0 rfl) ?_
  refine gX_lo C G dX0_farBeyond_12 ?_
  refine lv_lmul hx hb dX0_farBeyond_15 ?_
  refine lv_aload_n hx hb dX0_farBeyond_16 rfl (lv_at hl 0 rfl) ?_
  refine gX_up C G dX0_farBeyond_17 ?_
  refine lv_lload hx hb dX0_farBeyond_20 (lv_at hl 4 rfl) ?_
  refine lv_lmul hx hb dX0_farBeyond_22 ?_
  refine W.lcmp hx hb dX0_farBeyond_23 ?_
  refine lv_if_ge (tgt := 31) hx hb dX0_farBeyond_24 (by decide) (fun h1 => ?_) (fun h1 => ?_)
  · refine lv_iconst (v := (0)) hx hb dX0_farBeyond_31 (by decide) ?_
    exact mg_zret C () G rfl (if_neg (mg_lge h1)).symm dX0_farBeyond_32
  · refine lv_iconst (v := (1)) hx hb dX0_farBeyond_27 (by decide) ?_
    refine lv_goto (tgt := 32) hx hb dX0_farBeyond_28 (by decide) ?_
    exact mg_zret C () G rfl (if_pos (mg_lgn h1)).symm dX0_farBeyond_32
theorem iX_farBeyond {a : Nat → Nat} {cI cZ : ClassId} {pt kk : Int32} {ax ay sx sy mx my mc mv mb qx qy qc : AR} {up lo : Int64} {g h : Nat} {bu bl : Int64} (C : mg_cx p s m args meth c cc ret nL RX0 A) (G : mg_wd D (mg_ty cI cZ) A s (wX a cI cZ pt kk ax ay sx sy mx my mc mv mb qx qy qc up lo) H locs) (hg : g < 4) (hh : h < 4) (hR : 1 + 1 ≤ R.frames ∧ 8 + (7 + 11) + 28 ≤ R.locals) (hf : cells ≤ R.cells ∧ slots ≤ R.slots) (hsz : ls.size = nL) (hrm : (rest.map fun v => v.category).sum ≤ 8) (hdg : decode cc pc = .ok (.invokevirtual 87, 3))
    (go : ∀ (r : Int32) (H1 : Heap) (locs1 : List Loc), (r = if mg_fB mx my mc g h bu bl then 1 else 0) → mg_wd D (mg_ty cI cZ) A s (wX a cI cZ pt kk ax ay sx sy mx my mc mv mb qx qy qc (mg_uM mx my mc g h) (mg_lM mc g h)) H1 locs1 → W p l e R s m args below meth c H1 locs1 cells slots Q (F0 m (pc + 3) ls (.int r :: rest))) : W p l e R s m args below meth c H locs cells slots Q (F0 m pc ls (.long bl :: .long bu :: .int (nI h) :: .int (nI g) :: .ref (a 0) :: rest)) := by
  have hts := C.2.2.2.2.2.1
  exact mg_ci (mg_runV C G (kX_farBeyond l D a cI cZ pt kk ax ay sx sy mx my mc mv mb qx qy qc up lo H.size g h bu bl hg hh) (cwV 4 hts (lw_V q107 q109 qs2 q10 q110) rfl rfl rfl (by decide +kernel) hR) (ci := 0) rfl rfl rfl rfl hsz rfl hrm hdg hf) G.2.2.2 (mg_free C G) (fun r u H1 locs1 hp B => go r H1 locs1 hp (mg_whole C G B))
def mg_lt (ax ay mx my mc : AR) (p g h : Nat) : Prop := mg_up ax ay mx my mc p g * mg_lo mc h < mg_up ax ay mx my mc p h * mg_lo mc g
def mg_iN (ax ay mx my mc : AR) (p h k : Nat) : Prop := ∀ g, g < k → ¬ mg_lt ax ay mx my mc p g h
set_option maxHeartbeats 4000000 in
set_option maxRecDepth 100000 in
/-- isNearest, a loop -/
theorem lX_isNearest1 {a : Nat → Nat} {cI cZ : ClassId} {pt : Int32} {ax ay sx sy mx my mc mv mb qx qy qc : AR} {N pp g : Nat} (C : mg_cx p s m args meth c cX0_isNearest ret 8 RX0 A) (hN : N ≤ 4) (hp : pp < 24) (hg : g < 4) (go0 : ∀ (up lo : Int64) (H : Heap) (locs : List Loc) (ls : Array Slot), ¬ mg_iN ax ay mx my mc pp g N → mg_wd D (mg_ty cI cZ) A s (wX a cI cZ pt (nI N) ax ay sx sy mx my mc mv mb qx qy qc up lo) H locs → W p l e (mg_R 1 26) s m args below meth c H locs 0 0 Q (F0 m 53 ls []))
    (go : ∀ (up lo : Int64) (H : Heap) (locs : List Loc) (ls : Array Slot), mg_iN ax ay mx my mc pp g N → mg_wd D (mg_ty cI cZ) A s (wX a cI cZ pt (nI N) ax ay sx sy mx my mc mv mb qx qy qc up lo) H locs → lv_has ls 8 [] → W p l e (mg_R 1 26) s m args below meth c H locs 0 0 Q (F0 m 61 ls [])) :
    ∀ (n i : Nat) (up lo : Int64), i ≤ N → N < i + n → (∀ h, h < i → ¬ mg_lt ax ay mx my mc pp h g) → ∀ (H : Heap) (locs : List Loc) (ls : Array Slot), mg_wd D (mg_ty cI cZ) A s (wX a cI cZ pt (nI N) ax ay sx sy mx my mc mv mb qx qy qc up lo) H locs → lv_has ls 8 [(7, .int (nI i)), (0, .ref (a 0)), (1, .int (nI pp)), (3, .long (mg_up ax ay mx my mc pp g)), (5, .long (mg_lo mc g))] → W p l e (mg_R 1 26) s m args below meth c H locs 0 0 Q (F0 m 20 ls []) := by
  obtain ⟨hx, hb, hr, hml, hown, hts, hlk, hA⟩ := id C
  intro n
  induction n with
  | zero => intro i up lo h1 h2; exact absurd h2 (by omega)
  | succ n ih =>
    intro i up lo hi hin hv H locs ls G hl
    refine lv_iload hx hb dX0_isNearest_20 (lv_at hl 0 rfl) ?_
    refine lv_aload_n hx hb dX0_isNearest_22 rfl (lv_at hl 1 rfl) ?_
    refine gX_kk C G dX0_isNearest_23 ?_
    refine mg_ige (tgt := 61) hx hb (by omega) (by omega) dX0_isNearest_26 (by decide) (fun h => ?_) (fun h => ?_)
    · obtain rfl : i = N := by omega
      exact go up lo H locs ls hv G (lv_sub hl [] rfl)
    · refine lv_aload_n hx hb dX0_isNearest_29 rfl (lv_at hl 1 rfl) ?_
      refine lv_iload_n hx hb dX0_isNearest_30 rfl (lv_at hl 2 rfl) ?_
      refine lv_iload hx hb dX0_isNearest_31 (lv_at hl 0 rfl) ?_
      refine iX_measure C G hp (by omega) ⟨Nat.le_of_ble_eq_true rfl, Nat.le_of_ble_eq_true rfl⟩ ⟨Nat.zero_le _, Nat.zero_le _⟩ hl.1 (Nat.le_of_ble_eq_true rfl) dX0_isNearest_33 (fun H locs G => ?_)
      refine lv_aload_n hx hb dX0_isNearest_36 rfl (lv_at hl 1 rfl) ?_
      refine gX_up C G dX0_isNearest_37 ?_
      refine lv_lload hx hb dX0_isNearest_40 (lv_at hl 4 rfl) ?_
      refine lv_lmul hx hb dX0_isNearest_42 ?_
      refine lv_lload_n hx hb dX0_isNearest_43 rfl (lv_at hl 3 rfl) ?_
      refine lv_aload_n hx hb dX0_isNearest_44 rfl (lv_at hl 1 rfl) ?_
      refine gX_lo C G dX0_isNearest_45 ?_
      refine lv_lmul hx hb dX0_isNearest_48 ?_
      refine W.lcmp hx hb dX0_isNearest_49 ?_
      refine lv_if_ge (tgt := 55) hx hb dX0_isNearest_50 (by decide) (fun h1 => ?_) (fun h1 => ?_)
      · refine lv_iinc (lv' := [(7, _), (0, _), (1, _), (3, _), (5, _)]) hx hb dX0_isNearest_55 hl (k := 0) rfl (mg_inc _) (by decide) rfl (fun ls hl => ?_)
        refine lv_goto (tgt := 20) hx hb dX0_isNearest_58 (by decide) ?_
        refine ih (i + 1) _ _ (by omega) (by omega) (fun h hh => ?_) H locs ls G (lv_sub hl [0, 1, 2, 3, 4] rfl)
        by_cases q : h = i
        · subst q; exact mg_lge h1
        · exact hv h (by omega)
      · exact go0 _ _ H locs ls (fun q => q i h (mg_lgn h1)) G
set_option maxHeartbeats 4000000 in
set_option maxRecDepth 100000 in
/-- isNearest(p, group) -/
theorem kX_isNearest (l : Launch) (D : va_G) (a : Nat → Nat) (cI cZ : ClassId) (pt : Int32) (ax ay sx sy mx my mc mv mb qx qy qc : AR) (up lo : Int64) (sz : Nat) (k pp g : Nat) (hk : k ≤ 4) (hp : pp < 24) (hg : g < 4) : Met l yX0_isNearest (ws_ yX0_isNearest cX0_isNearest 8 (some .boolean)) (mg_R 1 26) (va_Pc [.ref (a 0), .int (nI pp), .int (nI g)] (mg_pre D (mg_ty cI cZ) (wX a cI cZ pt (nI k) ax ay sx sy mx my mc mv mb qx qy qc up lo) sz)) (va_Qi (fun (r : Int32) (u : Int64 × Int64) => (r = 1 ∧ mg_iN ax ay mx my mc pp g k) ∨ (r = 0 ∧ ¬ mg_iN ax ay mx my mc pp g k)) (mg_bk D (mg_ty cI cZ) (fun (u : Int64 × Int64) => wX a cI cZ pt (nI k) ax ay sx sy mx my mc mv mb qx qy qc (u.1) (u.2)) (va_A (wX a cI cZ pt (nI k) ax ay sx sy mx my mc mv mb qx qy qc up lo) sz)) (va_A (wX a cI cZ pt (nI k) ax ay sx sy mx my mc mv mb qx qy qc up lo) sz)) 0 0 (va_A (wX a cI cZ pt (nI k) ax ay sx sy mx my mc mv mb qx qy qc up lo) sz) := by
  refine mg_meti (by decide) (Nat.le_of_ble_eq_true rfl) ?_
  intro p e s m below meth c A ls C hin G hl
  have C : mg_cx p s m _ meth c cX0_isNearest (some .boolean) 8 RX0 A := C
  obtain ⟨hx, hb, hr, hml, hown, hts, hlk, hA⟩ := id C
  have hl : lv_has ls 8 [(0, _), (1, _), (2, _)] := hl
  refine lv_aload_n hx hb dX0_isNearest_0 rfl (lv_at hl 0 rfl) ?_
  refine lv_iload_n hx hb dX0_isNearest_1 rfl (lv_at hl 1 rfl) ?_
  refine lv_iload_n hx hb dX0_isNearest_2 rfl (lv_at hl 2 rfl) ?_
  refine iX_measure C G hp hg ⟨Nat.le_of_ble_eq_true rfl, Nat.le_of_ble_eq_true rfl⟩ ⟨Nat.zero_le _, Nat.zero_le _⟩ hl.1 (Nat.le_of_ble_eq_true rfl) dX0_isNearest_3 (fun H locs G => ?_)
  refine lv_aload_n hx hb dX0_isNearest_6 rfl (lv_at hl 0 rfl) ?_
  refine gX_up C G dX0_isNearest_7 ?_
  refine lv_lstore_n (lv' := [(3, _), (0, _), (1, _), (2, _)]) hx hb dX0_isNearest_10 rfl hl (by decide) rfl (fun ls hl => ?_)
  refine lv_aload_n hx hb dX0_isNearest_11 rfl (lv_at hl 1 rfl) ?_
  refine gX_lo C G dX0_isNearest_12 ?_
  refine lv_lstore (lv' := [(5, _), (3, _), (0, _), (1, _), (2, _)]) hx hb dX0_isNearest_15 hl (by decide) rfl (fun ls hl => ?_)
  refine lv_iconst (v := (nI 0)) hx hb dX0_isNearest_17 (by decide) ?_
  refine lv_istore (lv' := [(7, _), (5, _), (3, _), (0, _), (1, _), (2, _)]) hx hb dX0_isNearest_18 hl (by decide) rfl (fun ls hl => ?_)
  refine lX_isNearest1 C hk hp hg (fun up lo H locs ls hv G => ?_) (fun up lo H locs ls hv G hl => ?_) 5 0 _ _ (by omega) (by omega) (fun h hh => absurd hh (by omega)) _ _ ls G (lv_sub hl [0, 3, 4, 2, 1] rfl)
  · refine lv_iconst (v := (0)) hx hb dX0_isNearest_53 (by decide) ?_
    exact mg_zret C (up, lo) G rfl (Or.inr ⟨rfl, hv⟩) dX0_isNearest_54
  · refine lv_iconst (v := (1)) hx hb dX0_isNearest_61 (by decide) ?_
    exact mg_zret C (up, lo) G rfl (Or.inl ⟨rfl, hv⟩) dX0_isNearest_62
theorem iX_isNearest {a : Nat → Nat} {cI cZ : ClassId} {pt : Int32} {ax ay sx sy mx my mc mv mb qx qy qc : AR} {up lo : Int64} {k pp g : Nat} (C : mg_cx p s m args meth c cc ret nL RX0 A) (G : mg_wd D (mg_ty cI cZ) A s (wX a cI cZ pt (nI k) ax ay sx sy mx my mc mv mb qx qy qc up lo) H locs) (hk : k ≤ 4) (hp : pp < 24) (hg : g < 4) (hR : 1 + 1 ≤ R.frames ∧ 8 + (8 + 11) + 26 ≤ R.locals) (hf : cells ≤ R.cells ∧ slots ≤ R.slots) (hsz : ls.size = nL) (hrm : (rest.map fun v => v.category).sum ≤ 8) (hdg : decode cc pc = .ok (.invokevirtual 72, 3))
    (go : ∀ (r : Int32) (u : Int64 × Int64) (H1 : Heap) (locs1 : List Loc), ((r = 1 ∧ mg_iN ax ay mx my mc pp g k) ∨ (r = 0 ∧ ¬ mg_iN ax ay mx my mc pp g k)) → mg_wd D (mg_ty cI cZ) A s (wX a cI cZ pt (nI k) ax ay sx sy mx my mc mv mb qx qy qc (u.1) (u.2)) H1 locs1 → W p l e R s m args below meth c H1 locs1 cells slots Q (F0 m (pc + 3) ls (.int r :: rest))) : W p l e R s m args below meth c H locs cells slots Q (F0 m pc ls (.int (nI g) :: .int (nI pp) :: .ref (a 0) :: rest)) := by
  have hts := C.2.2.2.2.2.1
  exact mg_ci (mg_runV C G (kX_isNearest l D a cI cZ pt ax ay sx sy mx my mc mv mb qx qy qc up lo H.size k pp g hk hp hg) (cwV 2 hts (lw_V q141 q143 qs5 q10 q144) rfl rfl rfl (by decide +kernel) hR) (ci := 0) rfl rfl rfl rfl hsz rfl hrm hdg hf) G.2.2.2 (mg_free C G) (fun r u H1 locs1 hp B => go r u H1 locs1 hp (mg_whole C G B))
end GM4
end
section
/-! the plain law: what the component's pruned search finds is what the model's whole search finds -/
theorem mg_mulb {a b A B : Int} (h1 : -A ≤ a) (h2 : a ≤ A) (h3 : -B ≤ b) (h4 : b ≤ B) : -(A * B) ≤ a * b ∧ a * b ≤ A * B := by
  have e1 : 0 ≤ (A - a) * (B + b) := Int.mul_nonneg (by omega) (by omega)
  have e2 : 0 ≤ (A + a) * (B - b) := Int.mul_nonneg (by omega) (by omega)
  have e3 : 0 ≤ (A - a) * (B - b) := Int.mul_nonneg (by omega) (by omega)
  have e4 : 0 ≤ (A + a) * (B + b) := Int.mul_nonneg (by omega) (by omega)
  constructor <;> grind
theorem mg_sqb {a A : Int} (h1 : -A ≤ a) (h2 : a ≤ A) : 0 ≤ a * a ∧ a * a ≤ A * A := by
  refine ⟨?_, (mg_mulb h1 h2 h1 h2).2⟩
  rcases Int.le_total 0 a with h | h
  · exact Int.mul_nonneg h h
  · have := Int.mul_nonneg (show 0 ≤ -a by omega) (show 0 ≤ -a by omega)
    rw [Int.neg_mul_neg] at this
    exact this
def mg_Bd (n : Nat) (ax ay mx my mc : AR) : Prop :=
  (∀ p, p < n → (-50 ≤ (ax p).toInt ∧ (ax p).toInt ≤ 50) ∧ (-50 ≤ (ay p).toInt ∧ (ay p).toInt ≤ 50)) ∧
  (∀ g, g < 4 → (1 ≤ (mc g).toInt ∧ (mc g).toInt ≤ 24) ∧ (-(50 * (mc g).toInt) ≤ (mx g).toInt ∧ (mx g).toInt ≤ 50 * (mc g).toInt) ∧ (-(50 * (mc g).toInt) ≤ (my g).toInt ∧ (my g).toInt ≤ 50 * (mc g).toInt))
def mg_d (ax ay mx my mc : AR) (p g : Nat) : Int := ((mc g).toInt * (ax p).toInt - (mx g).toInt) * ((mc g).toInt * (ax p).toInt - (mx g).toInt) + ((mc g).toInt * (ay p).toInt - (my g).toInt) * ((mc g).toInt * (ay p).toInt - (my g).toInt)
def mg_l (mc : AR) (g : Nat) : Int := (mc g).toInt * (mc g).toInt
/-- one coordinate, in longs and in ints -/
theorem mg_co {c x m : Int32} (hc : 1 ≤ c.toInt ∧ c.toInt ≤ 24) (hx : -50 ≤ x.toInt ∧ x.toInt ≤ 50) (hm : -(50 * c.toInt) ≤ m.toInt ∧ m.toInt ≤ 50 * c.toInt) :
    (c.toInt64 * x.toInt64 - m.toInt64).toInt = c.toInt * x.toInt - m.toInt ∧ (x * c - m).toInt64.toInt = c.toInt * x.toInt - m.toInt ∧ -2400 ≤ c.toInt * x.toInt - m.toInt ∧ c.toInt * x.toInt - m.toInt ≤ 2400 := by
  have hb := mg_mulb (a := c.toInt) (b := x.toInt) (A := 24) (B := 50) (by omega) (by omega) (by omega) (by omega)
  have e1 : (c.toInt64 * x.toInt64).toInt = c.toInt * x.toInt := by
    rw [Jvm.Kit.i64_mul] <;> rw [Int32.toInt_toInt64, Int32.toInt_toInt64] <;> omega
  have e2 : (x * c).toInt = c.toInt * x.toInt := by
    have hb2 : x.toInt * c.toInt = c.toInt * x.toInt := Int.mul_comm _ _
    rw [Jvm.Kit.i32_mul] <;> rw [hb2] <;> omega
  refine ⟨?_, ?_, by omega, by omega⟩
  · rw [Jvm.Kit.i64_sub] <;> rw [e1, Int32.toInt_toInt64] <;> omega
  · rw [Int32.toInt_toInt64, Jvm.Kit.i32_sub] <;> rw [e2] <;> omega
theorem mg_sum2 {X Y : Int64} {a b : Int} {A : Int} (hX : X.toInt = a) (hY : Y.toInt = b) (hA : 0 ≤ A ∧ A ≤ 1000000000) (ha : -A ≤ a ∧ a ≤ A) (hb : -A ≤ b ∧ b ≤ A) : (X * X + Y * Y).toInt = a * a + b * b ∧ 0 ≤ a * a + b * b ∧ a * a + b * b ≤ 2 * (A * A) := by
  have h1 := mg_sqb ha.1 ha.2
  have h2 := mg_sqb hb.1 hb.2
  have h3 := mg_sqb (a := A) (A := 1000000000) (by omega) hA.2
  have e1 : (X * X).toInt = a * a := by rw [Jvm.Kit.i64_mul] <;> rw [hX] <;> omega
  have e2 : (Y * Y).toInt = b * b := by rw [Jvm.Kit.i64_mul] <;> rw [hY] <;> omega
  refine ⟨?_, by omega, by omega⟩
  rw [Jvm.Kit.i64_add] <;> rw [e1, e2] <;> omega
section PL
variable {n : Nat} {ax ay mx my mc : AR}
theorem mg_l_b (B : mg_Bd n ax ay mx my mc) {g : Nat} (hg : g < 4) : 1 ≤ mg_l mc g ∧ mg_l mc g ≤ 576 := by
  obtain ⟨⟨h1, h2⟩, -⟩ := B.2 g hg
  have := mg_mulb (a := (mc g).toInt - 1) (b := (mc g).toInt + 1) (A := 23) (B := 25) (by omega) (by omega) (by omega) (by omega)
  have h0 : 0 ≤ ((mc g).toInt - 1) * ((mc g).toInt + 1) := Int.mul_nonneg (by omega) (by omega)
  have h3 := mg_sqb (a := (mc g).toInt) (A := 24) (by omega) h2
  unfold mg_l
  constructor
  · grind
  · omega
theorem mg_up_i (B : mg_Bd n ax ay mx my mc) {p g : Nat} (hp : p < n) (hg : g < 4) : (mg_up ax ay mx my mc p g).toInt = mg_d ax ay mx my mc p g ∧ 0 ≤ mg_d ax ay mx my mc p g ∧ mg_d ax ay mx my mc p g ≤ 11520000 := by
  obtain ⟨hc, hmx, hmy⟩ := B.2 g hg
  obtain ⟨hx, hy⟩ := B.1 p hp
  obtain ⟨a1, -, a2, a3⟩ := mg_co hc hx hmx
  obtain ⟨b1, -, b2, b3⟩ := mg_co hc hy hmy
  obtain ⟨e, e2, e3⟩ := mg_sum2 (A := 2400) a1 b1 (by decide) ⟨a2, a3⟩ ⟨b2, b3⟩
  exact ⟨e, e2, by unfold mg_d; omega⟩
theorem mg_far_i (B : mg_Bd n ax ay mx my mc) {p g : Nat} (hp : p < n) (hg : g < 4) : (mg_far ax ay mx my mc p g).toInt = mg_d ax ay mx my mc p g := by
  obtain ⟨hc, hmx, hmy⟩ := B.2 g hg
  obtain ⟨hx, hy⟩ := B.1 p hp
  obtain ⟨-, a1, a2, a3⟩ := mg_co hc hx hmx
  obtain ⟨-, b1, b2, b3⟩ := mg_co hc hy hmy
  exact (mg_sum2 (A := 2400) a1 b1 (by decide) ⟨a2, a3⟩ ⟨b2, b3⟩).1
theorem mg_lo_i (B : mg_Bd n ax ay mx my mc) {g : Nat} (hg : g < 4) : (mg_lo mc g).toInt = mg_l mc g := by
  have h := mg_l_b B hg
  unfold mg_lo
  rw [Jvm.Kit.i64_mul] <;> rw [Int32.toInt_toInt64] <;> unfold mg_l at * <;> omega
theorem mg_pr {x y : Int64} {a b A B : Int} (hx : x.toInt = a) (hy : y.toInt = b) (ha : 0 ≤ a ∧ a ≤ A) (hb : 0 ≤ b ∧ b ≤ B) (h : A * B < 9000000000000000000) : (x * y).toInt = a * b := by
  have h1 := mg_mulb (a := a) (b := b) (A := A) (B := B) (by omega) (by omega) (by omega) (by omega)
  have h2 := Int.mul_nonneg ha.1 hb.1
  rw [Jvm.Kit.i64_mul] <;> rw [hx, hy] <;> omega
/-- both compare the same numbers -/
theorem mg_lt_i (B : mg_Bd n ax ay mx my mc) {p g h : Nat} (hp : p < n) (hg : g < 4) (hh : h < 4) : mg_lt ax ay mx my mc p g h ↔ mg_d ax ay mx my mc p g * mg_l mc h < mg_d ax ay mx my mc p h * mg_l mc g := by
  obtain ⟨e1, b1, c1⟩ := mg_up_i B hp hg
  obtain ⟨e2, b2, c2⟩ := mg_up_i B hp hh
  have l1 := mg_l_b B hg
  have l2 := mg_l_b B hh
  unfold mg_lt
  rw [Int64.lt_iff_toInt_lt, mg_pr e1 (mg_lo_i B hh) ⟨b1, c1⟩ ⟨by omega, l2.2⟩ (by decide), mg_pr e2 (mg_lo_i B hg) ⟨b2, c2⟩ ⟨by omega, l1.2⟩ (by decide)]
theorem mg_nP_i (B : mg_Bd n ax ay mx my mc) {p g h : Nat} (hp : p < n) (hg : g < 4) (hh : h < 4) : mg_nP ax ay mx my mc p g h ↔ mg_d ax ay mx my mc p g * mg_l mc h < mg_d ax ay mx my mc p h * mg_l mc g := by
  have key : ∀ {g h : Nat}, g < 4 → h < 4 → (mg_far ax ay mx my mc p g * (mc h).toInt64 * (mc h).toInt64).toInt = mg_d ax ay mx my mc p g * mg_l mc h := by
    intro g h hg hh
    obtain ⟨-, b1, c1⟩ := mg_up_i B hp hg
    have hc := (B.2 h hh).1
    have e := mg_pr (mg_far_i B hp hg) (Int32.toInt_toInt64 (mc h)) ⟨b1, c1⟩ ⟨by omega, hc.2⟩ (by decide)
    have h1 := mg_mulb (a := mg_d ax ay mx my mc p g) (b := (mc h).toInt) (A := 11520000) (B := 24) (by omega) (by omega) (by omega) (by omega)
    have h2 := Int.mul_nonneg b1 (show 0 ≤ (mc h).toInt by omega)
    rw [mg_pr e (Int32.toInt_toInt64 (mc h)) ⟨h2, h1.2⟩ ⟨by omega, hc.2⟩ (by decide), Int.mul_assoc]
    rfl
  rw [show mg_nP ax ay mx my mc p g h ↔ _ from Int64.lt_iff_toInt_lt, key hg hh, key hh hg]
/-- the order that both search by: nearer, or as near and of a smaller number -/
def mg_le (ax ay mx my mc : AR) (p b h : Nat) : Prop := mg_d ax ay mx my mc p b * mg_l mc h < mg_d ax ay mx my mc p h * mg_l mc b ∨ (mg_d ax ay mx my mc p b * mg_l mc h = mg_d ax ay mx my mc p h * mg_l mc b ∧ b ≤ h)
theorem mg_le_rf (p b : Nat) : mg_le ax ay mx my mc p b b := Or.inr ⟨rfl, Nat.le_refl b⟩
theorem mg_cm {d1 d2 d3 l1 l2 l3 : Int} (p1 : 0 < l1) (p2 : 0 < l2) (p3 : 0 < l3) (h1 : d1 * l2 ≤ d2 * l1) (h2 : d2 * l3 ≤ d3 * l2) : d1 * l3 ≤ d3 * l1 := by
  have a1 := Int.mul_le_mul_of_nonneg_right h1 (Int.le_of_lt p3)
  have a2 := Int.mul_le_mul_of_nonneg_right h2 (Int.le_of_lt p1)
  have e : d1 * l3 * l2 ≤ d3 * l1 * l2 := by grind
  exact Int.le_of_mul_le_mul_right e p2
theorem mg_cmL {d1 d2 d3 l1 l2 l3 : Int} (p1 : 0 < l1) (p2 : 0 < l2) (p3 : 0 < l3) (h1 : d1 * l2 < d2 * l1) (h2 : d2 * l3 ≤ d3 * l2) : d1 * l3 < d3 * l1 := by
  have a1 := Int.mul_lt_mul_of_pos_right h1 p3
  have a2 := Int.mul_le_mul_of_nonneg_right h2 (Int.le_of_lt p1)
  have e : d1 * l3 * l2 < d3 * l1 * l2 := by grind
  exact Int.lt_of_mul_lt_mul_right e (Int.le_of_lt p2)
theorem mg_cmR {d1 d2 d3 l1 l2 l3 : Int} (p1 : 0 < l1) (p2 : 0 < l2) (p3 : 0 < l3) (h1 : d1 * l2 ≤ d2 * l1) (h2 : d2 * l3 < d3 * l2) : d1 * l3 < d3 * l1 := by
  have a1 := Int.mul_le_mul_of_nonneg_right h1 (Int.le_of_lt p3)
  have a2 := Int.mul_lt_mul_of_pos_right h2 p1
  have e : d1 * l3 * l2 < d3 * l1 * l2 := by grind
  exact Int.lt_of_mul_lt_mul_right e (Int.le_of_lt p2)
theorem mg_le_tr (B : mg_Bd n ax ay mx my mc) {p a b c : Nat} (ha : a < 4) (hb : b < 4) (hc : c < 4) (h1 : mg_le ax ay mx my mc p a b) (h2 : mg_le ax ay mx my mc p b c) : mg_le ax ay mx my mc p a c := by
  have p1 : 0 < mg_l mc a := by have := mg_l_b B ha; omega
  have p2 : 0 < mg_l mc b := by have := mg_l_b B hb; omega
  have p3 : 0 < mg_l mc c := by have := mg_l_b B hc; omega
  rcases h1 with h1 | ⟨h1, g1⟩ <;> rcases h2 with h2 | ⟨h2, g2⟩
  · exact Or.inl (mg_cmL p1 p2 p3 h1 (Int.le_of_lt h2))
  · exact Or.inl (mg_cmL p1 p2 p3 h1 (Int.le_of_eq h2))
  · exact Or.inl (mg_cmR p1 p2 p3 (Int.le_of_eq h1) h2)
  · refine Or.inr ⟨Int.le_antisymm (mg_cm p1 p2 p3 (Int.le_of_eq h1) (Int.le_of_eq h2)) (mg_cm p3 p2 p1 (Int.le_of_eq h2.symm) (Int.le_of_eq h1.symm)), by omega⟩
theorem mg_le_as {p a b : Nat} (h1 : mg_le ax ay mx my mc p a b) (h2 : mg_le ax ay mx my mc p b a) : a = b := by
  rcases h1 with h1 | ⟨h1, g1⟩ <;> rcases h2 with h2 | ⟨h2, g2⟩ <;> omega
theorem mg_le_le {p a b : Nat} (h1 : mg_le ax ay mx my mc p a b) : mg_d ax ay mx my mc p a * mg_l mc b ≤ mg_d ax ay mx my mc p b * mg_l mc a := by
  rcases h1 with h1 | ⟨h1, g1⟩ <;> omega
theorem mg_nr_min (B : mg_Bd n ax ay mx my mc) {p : Nat} (hp : p < n) : ∀ i, i < 4 → ∀ h, h ≤ i → mg_le ax ay mx my mc p (mg_nr ax ay mx my mc p i) h := by
  intro i
  induction i with
  | zero =>
    intro _ h hh
    obtain rfl : h = 0 := by omega
    exact mg_le_rf p 0
  | succ i ih =>
    intro hi h hh
    have hle := mg_nr_le ax ay mx my mc p i
    by_cases q : mg_nP ax ay mx my mc p (i + 1) (mg_nr ax ay mx my mc p i)
    · rw [show mg_nr ax ay mx my mc p (i + 1) = i + 1 from if_pos q]
      by_cases e : h = i + 1
      · subst e; exact mg_le_rf p _
      · exact mg_le_tr B hi (by omega) (by omega) (Or.inl ((mg_nP_i B hp hi (by omega)).mp q)) (ih (by omega) h (by omega))
    · rw [show mg_nr ax ay mx my mc p (i + 1) = mg_nr ax ay mx my mc p i from if_neg q]
      by_cases e : h = i + 1
      · subst e
        have q2 := mt (mg_nP_i B hp hi (show mg_nr ax ay mx my mc p i < 4 by omega)).mpr q
        by_cases z : mg_d ax ay mx my mc p (mg_nr ax ay mx my mc p i) * mg_l mc (i + 1) < mg_d ax ay mx my mc p (i + 1) * mg_l mc (mg_nr ax ay mx my mc p i)
        · exact Or.inl z
        · exact Or.inr ⟨by omega, by omega⟩
      · exact ih (by omega) h (by omega)
theorem mg_nr_one (B : mg_Bd n ax ay mx my mc) {p k b : Nat} (hp : p < n) (hk : 1 ≤ k ∧ k ≤ 4) (hb : b < k) (h : ∀ h, h < k → mg_le ax ay mx my mc p b h) : b = mg_nr ax ay mx my mc p (k - 1) := by
  have hle := mg_nr_le ax ay mx my mc p (k - 1)
  exact mg_le_as (h _ (by omega)) (mg_nr_min B hp (k - 1) (by omega) b (by omega))
/-- near: the component's question is the model's -/
theorem mg_near_i (B : mg_Bd n ax ay mx my mc) {p k g : Nat} (hp : p < n) (hk : 1 ≤ k ∧ k ≤ 4) (hg : g < k) : mg_iN ax ay mx my mc p g k ↔ ¬ mg_nP ax ay mx my mc p (mg_nr ax ay mx my mc p (k - 1)) g := by
  have hle := mg_nr_le ax ay mx my mc p (k - 1)
  rw [mg_nP_i B hp (by omega) (by omega)]
  constructor
  · intro h q
    exact h (mg_nr ax ay mx my mc p (k - 1)) (by omega) ((mg_lt_i B hp (by omega) (by omega)).mpr q)
  · intro h j hj q
    refine h ?_
    have p1 := mg_l_b B (g := mg_nr ax ay mx my mc p (k - 1)) (by omega)
    have p2 := mg_l_b B (g := j) (by omega)
    have p3 := mg_l_b B (g := g) (by omega)
    exact mg_cmR (by omega) (by omega) (by omega) (mg_le_le (mg_nr_min B hp (k - 1) (by omega) j (by omega))) ((mg_lt_i B hp (by omega) (by omega)).mp q)
/-- the triangle: a middle more than twice as far from the best one as the point is lies farther off -/
theorem mg_tri {u1 u2 v1 v2 : Int} (h : 4 * (u1 * u1 + u2 * u2) < (u1 - v1) * (u1 - v1) + (u2 - v2) * (u2 - v2)) : u1 * u1 + u2 * u2 < v1 * v1 + v2 * v2 := by
  have s1 : 0 ≤ (u1 + v1) * (u1 + v1) := by
    rcases Int.le_total 0 (u1 + v1) with q | q
    · exact Int.mul_nonneg q q
    · have := Int.mul_nonneg (show 0 ≤ -(u1 + v1) by omega) (show 0 ≤ -(u1 + v1) by omega)
      rwa [Int.neg_mul_neg] at this
  have s2 : 0 ≤ (u2 + v2) * (u2 + v2) := by
    rcases Int.le_total 0 (u2 + v2) with q | q
    · exact Int.mul_nonneg q q
    · have := Int.mul_nonneg (show 0 ≤ -(u2 + v2) by omega) (show 0 ≤ -(u2 + v2) by omega)
      rwa [Int.neg_mul_neg] at this
  grind
theorem mg_cr {x m c y k : Int} (hc : 1 ≤ c ∧ c ≤ 24) (hk : 1 ≤ k ∧ k ≤ 24) (hm : -(50 * c) ≤ m ∧ m ≤ 50 * c) : -28800 ≤ m * k ∧ m * k ≤ 28800 := by
  have := mg_mulb (a := m) (b := k) (A := 1200) (B := 24) (by omega) (by omega) (by omega) (by omega)
  omega
theorem mg_uM_c {m1 c1 m2 c2 : Int32} (h1 : 1 ≤ c1.toInt ∧ c1.toInt ≤ 24) (h2 : 1 ≤ c2.toInt ∧ c2.toInt ≤ 24) (g1 : -(50 * c1.toInt) ≤ m1.toInt ∧ m1.toInt ≤ 50 * c1.toInt) (g2 : -(50 * c2.toInt) ≤ m2.toInt ∧ m2.toInt ≤ 50 * c2.toInt) :
    (m1.toInt64 * c2.toInt64 - m2.toInt64 * c1.toInt64).toInt = m1.toInt * c2.toInt - m2.toInt * c1.toInt ∧ -57600 ≤ m1.toInt * c2.toInt - m2.toInt * c1.toInt ∧ m1.toInt * c2.toInt - m2.toInt * c1.toInt ≤ 57600 := by
  have a1 := mg_cr (x := 0) (y := 0) h1 h2 g1
  have a2 := mg_cr (x := 0) (y := 0) h2 h1 g2
  have e1 : (m1.toInt64 * c2.toInt64).toInt = m1.toInt * c2.toInt := by
    rw [Jvm.Kit.i64_mul] <;> rw [Int32.toInt_toInt64, Int32.toInt_toInt64] <;> omega
  have e2 : (m2.toInt64 * c1.toInt64).toInt = m2.toInt * c1.toInt := by
    rw [Jvm.Kit.i64_mul] <;> rw [Int32.toInt_toInt64, Int32.toInt_toInt64] <;> omega
  refine ⟨?_, by omega, by omega⟩
  rw [Jvm.Kit.i64_sub] <;> rw [e1, e2] <;> omega
theorem mg_fB_i (B : mg_Bd n ax ay mx my mc) {p b g : Nat} (hp : p < n) (hb : b < 4) (hg : g < 4) (h : mg_fB mx my mc b g (mg_up ax ay mx my mc p b) (mg_lo mc b)) : mg_d ax ay mx my mc p b * mg_l mc g < mg_d ax ay mx my mc p g * mg_l mc b := by
  obtain ⟨e1, b1, c1⟩ := mg_up_i B hp hb
  have lb := mg_l_b B hb
  have lg := mg_l_b B hg
  obtain ⟨hc, hmx, hmy⟩ := B.2 b hb
  obtain ⟨hc2, hmx2, hmy2⟩ := B.2 g hg
  obtain ⟨u1, u2, u3⟩ := mg_uM_c hc hc2 hmx hmx2
  obtain ⟨v1, v2, v3⟩ := mg_uM_c hc hc2 hmy hmy2
  obtain ⟨eU, bU, cU⟩ := mg_sum2 (A := 57600) u1 v1 (by decide) ⟨u2, u3⟩ ⟨v2, v3⟩
  have eUM : (mg_uM mx my mc b g).toInt = ((mx b).toInt * (mc g).toInt - (mx g).toInt * (mc b).toInt) * ((mx b).toInt * (mc g).toInt - (mx g).toInt * (mc b).toInt) + ((my b).toInt * (mc g).toInt - (my g).toInt * (mc b).toInt) * ((my b).toInt * (mc g).toInt - (my g).toInt * (mc b).toInt) := eU
  have hn := mg_mulb (a := (mc b).toInt) (b := (mc g).toInt) (A := 24) (B := 24) (by omega) (by omega) (by omega) (by omega)
  have hn0 : 0 ≤ (mc b).toInt * (mc g).toInt := Int.mul_nonneg (by omega) (by omega)
  have en : ((mc b).toInt64 * (mc g).toInt64).toInt = (mc b).toInt * (mc g).toInt := mg_pr (Int32.toInt_toInt64 _) (Int32.toInt_toInt64 _) ⟨by omega, hc.2⟩ ⟨by omega, hc2.2⟩ (by decide)
  have eL : (mg_lM mc b g).toInt = ((mc b).toInt * (mc g).toInt) * ((mc b).toInt * (mc g).toInt) := mg_pr en en ⟨hn0, hn.2⟩ ⟨hn0, hn.2⟩ (by decide)
  have hL := mg_sqb (a := (mc b).toInt * (mc g).toInt) (A := 576) (by omega) (by omega)
  have e4 : ((4 : Int64) * mg_up ax ay mx my mc p b).toInt = 4 * mg_d ax ay mx my mc p b := mg_pr (x := 4) (a := 4) (A := 4) (by decide) e1 (by decide) ⟨b1, c1⟩ (by decide)
  have hh := Int64.lt_iff_toInt_lt.mp h
  rw [mg_pr e4 eL ⟨by omega, by omega⟩ hL (A := 46080000) (by decide), mg_pr eUM (mg_lo_i B hb) ⟨bU, cU⟩ ⟨by omega, lb.2⟩ (by decide)] at hh
  have ht := mg_tri (u1 := (mc g).toInt * ((mc b).toInt * (ax p).toInt - (mx b).toInt)) (u2 := (mc g).toInt * ((mc b).toInt * (ay p).toInt - (my b).toInt)) (v1 := (mc b).toInt * ((mc g).toInt * (ax p).toInt - (mx g).toInt)) (v2 := (mc b).toInt * ((mc g).toInt * (ay p).toInt - (my g).toInt)) ?_
  · unfold mg_d mg_l; grind
  · have q : 4 * ((mc g).toInt * ((mc b).toInt * (ax p).toInt - (mx b).toInt) * ((mc g).toInt * ((mc b).toInt * (ax p).toInt - (mx b).toInt)) + (mc g).toInt * ((mc b).toInt * (ay p).toInt - (my b).toInt) * ((mc g).toInt * ((mc b).toInt * (ay p).toInt - (my b).toInt))) * mg_l mc b < (((mc g).toInt * ((mc b).toInt * (ax p).toInt - (mx b).toInt) - (mc b).toInt * ((mc g).toInt * (ax p).toInt - (mx g).toInt)) * ((mc g).toInt * ((mc b).toInt * (ax p).toInt - (mx b).toInt) - (mc b).toInt * ((mc g).toInt * (ax p).toInt - (mx g).toInt)) + ((mc g).toInt * ((mc b).toInt * (ay p).toInt - (my b).toInt) - (mc b).toInt * ((mc g).toInt * (ay p).toInt - (my g).toInt)) * ((mc g).toInt * ((mc b).toInt * (ay p).toInt - (my b).toInt) - (mc b).toInt * ((mc g).toInt * (ay p).toInt - (my g).toInt))) * mg_l mc b := by
      unfold mg_d mg_l at hh
      unfold mg_l
      grind
    exact Int.lt_of_mul_lt_mul_right q (by omega)
end PL
end
section
/-! the plain law, on: sums and sizes, the invariant, a round keeps it -/
theorem mg_nI_ne {a b : Nat} (ha : a < 2 ^ 31) (hb : b < 2 ^ 31) (h : a ≠ b) : nI a ≠ nI b := fun q => h ((nI_eq ha hb).mp q)
theorem mg_sz_c (G : AR) (v : Int32) : ∀ i, i ≤ 24 → ∃ c : Nat, c ≤ i ∧ mg_sz G v i = nI c := by
  intro i
  induction i with
  | zero => intro _; exact ⟨0, Nat.le_refl 0, rfl⟩
  | succ i ih =>
    intro hi
    obtain ⟨c, hc, e⟩ := ih (by omega)
    by_cases q : ¬ v < 0 ∧ G i = v
    · exact ⟨c + 1, by omega, by rw [show mg_sz G v (i + 1) = _ from if_pos q, e]; exact nI_1 c⟩
    · exact ⟨c, by omega, by rw [show mg_sz G v (i + 1) = _ from if_neg q, e]⟩
theorem mg_sm_c {ax ay : AR} (w : Int32) (f : AR) (hf : ∀ i, mg_sv ax ay w i = f i) (G : AR) (v : Int32) : ∀ i, i ≤ 24 → (∀ p, p < i → -50 ≤ (f p).toInt ∧ (f p).toInt ≤ 50) → ∃ c : Nat, c ≤ i ∧ mg_sz G v i = nI c ∧ -(50 * (c : Int)) ≤ (mg_sm ax ay G v w i).toInt ∧ (mg_sm ax ay G v w i).toInt ≤ 50 * (c : Int) := by
  intro i
  induction i with
  | zero => intro _ _; exact ⟨0, Nat.le_refl 0, rfl, show -(50 * ((0 : Nat) : Int)) ≤ (0 : Int32).toInt by decide, show (0 : Int32).toInt ≤ 50 * ((0 : Nat) : Int) by decide⟩
  | succ i ih =>
    intro hi hb
    obtain ⟨c, hc, e, b1, b2⟩ := ih (by omega) (fun p hp => hb p (by omega))
    have hx := hb i (by omega)
    by_cases q : ¬ v < 0 ∧ G i = v
    · have e2 : (mg_sm ax ay G v w (i + 1)).toInt = (mg_sm ax ay G v w i).toInt + (f i).toInt := by
        rw [show mg_sm ax ay G v w (i + 1) = _ from if_pos q, hf i]
        rw [Jvm.Kit.i32_add] <;> omega
      refine ⟨c + 1, by omega, by rw [show mg_sz G v (i + 1) = _ from if_pos q, e]; exact nI_1 c, ?_, ?_⟩ <;> rw [e2] <;> omega
    · refine ⟨c, by omega, by rw [show mg_sz G v (i + 1) = _ from if_neg q, e], ?_, ?_⟩ <;> rw [show mg_sm ax ay G v w (i + 1) = _ from if_neg q] <;> omega
/-- the component's invariant: bounds; and a point's group, if it and another haven't moved, is the nearer one -/
def mg_Iv (n k : Nat) (ax ay mx my mc mb mv : AR) : Prop :=
  mg_Bd n ax ay mx my mc ∧ ∀ p, p < n → mb p = -1 ∨ ∃ o, o < k ∧ mb p = nI o ∧ ∀ h, h < k → mv o = 0 → mv h = 0 → mg_le ax ay mx my mc p o h
/-- what 'moved' is behind a round -/
def mg_mV (ax ay mx my mc G : AR) (n h : Nat) : Int32 := if 0 < mg_sz G (nI h) n then (if mg_sm ax ay G (nI h) 0 n * mc h = mx h * mg_sz G (nI h) n ∧ mg_sm ax ay G (nI h) 1 n * mc h = my h * mg_sz G (nI h) n then 0 else 1) else 0
theorem mg_sv0 (ax ay : AR) (i : Nat) : mg_sv ax ay 0 i = ax i := if_pos rfl
theorem mg_sv1 (ax ay : AR) (i : Nat) : mg_sv ax ay 1 i = ay i := (if_neg (by decide)).trans (if_pos rfl)
/-- a middle that has not moved: the same distance -/
theorem mg_same {c c2 x y m m2 q q2 : Int} (h1 : m2 * c = m * c2) (h2 : q2 * c = q * c2) : ((c2 * x - m2) * (c2 * x - m2) + (c2 * y - q2) * (c2 * y - q2)) * (c * c) = ((c * x - m) * (c * x - m) + (c * y - q) * (c * y - q)) * (c2 * c2) := by
  have a1 : c * (c2 * x - m2) = c2 * (c * x - m) := by grind
  have a2 : c * (c2 * y - q2) = c2 * (c * y - q) := by grind
  have b1 : (c2 * x - m2) * (c2 * x - m2) * (c * c) = (c * (c2 * x - m2)) * (c * (c2 * x - m2)) := by grind
  have b2 : (c2 * y - q2) * (c2 * y - q2) * (c * c) = (c * (c2 * y - q2)) * (c * (c2 * y - q2)) := by grind
  rw [Int.add_mul, b1, b2, a1, a2]
  grind
theorem mg_tf {d1 d2 l1 l2 e1 e2 m1 m2 : Int} (p1 : 0 < l1) (p2 : 0 < l2) (q1 : 0 < m1) (q2 : 0 < m2) (h1 : e1 * l1 = d1 * m1) (h2 : e2 * l2 = d2 * m2) : (d1 * l2 < d2 * l1 → e1 * m2 < e2 * m1) ∧ (d1 * l2 = d2 * l1 → e1 * m2 = e2 * m1) := by
  have P : 0 < l1 * l2 := Int.mul_pos p1 p2
  have Q : 0 < m1 * m2 := Int.mul_pos q1 q2
  have a : e1 * m2 * (l1 * l2) = d1 * l2 * (m1 * m2) := by
    have : e1 * m2 * (l1 * l2) = (e1 * l1) * (m2 * l2) := by grind
    rw [this, h1]; grind
  have b : e2 * m1 * (l1 * l2) = d2 * l1 * (m1 * m2) := by
    have : e2 * m1 * (l1 * l2) = (e2 * l2) * (m1 * l1) := by grind
    rw [this, h2]; grind
  constructor
  · intro h
    have := Int.mul_lt_mul_of_pos_right h Q
    rw [← a, ← b] at this
    exact Int.lt_of_mul_lt_mul_right this (Int.le_of_lt P)
  · intro h
    have : e1 * m2 * (l1 * l2) = e2 * m1 * (l1 * l2) := by rw [a, b, h]
    exact Int.eq_of_mul_eq_mul_right (Int.ne_of_gt P) this
section PL2
variable {n k : Nat} {ax ay mx my mc mb mv G mv2 : AR}
/-- a middle behind the round: its numbers -/
theorem mg_rd_b (B : mg_Bd n ax ay mx my mc) (hn : n ≤ 24) (G : AR) (k : Nat) : mg_Bd n ax ay (mg_mv k G n (fun g => mg_sm ax ay G (nI g) 0 n) mx) (mg_mv k G n (fun g => mg_sm ax ay G (nI g) 1 n) my) (mg_mv k G n (fun g => mg_sz G (nI g) n) mc) := by
  refine ⟨B.1, fun g hg => ?_⟩
  unfold mg_mv
  by_cases q : g < k ∧ 0 < mg_sz G (nI g) n
  · simp only [if_pos q]
    obtain ⟨c, hc, e, b1, b2⟩ := mg_sm_c (ax := ax) (ay := ay) 0 ax (mg_sv0 ax ay) G (nI g) n hn (fun p hp => (B.1 p hp).1)
    obtain ⟨c2, hc2, f, b3, b4⟩ := mg_sm_c (ax := ax) (ay := ay) 1 ay (mg_sv1 ax ay) G (nI g) n hn (fun p hp => (B.1 p hp).2)
    have hcc : c2 = c := (nI_eq (by omega) (by omega)).mp (f.symm.trans e)
    subst hcc
    have hpos := q.2
    rw [e] at hpos ⊢
    have hc0 : 0 < c2 := (nI_ltI (a := 0) (b := c2) (by decide) (by omega)).mp hpos
    rw [nI_toInt (by omega)]
    exact ⟨by omega, ⟨b1, b2⟩, ⟨b3, b4⟩⟩
  · simp only [if_neg q]
    exact B.2 g hg
/-- of a middle that has not moved: the distance is the old one -/
theorem mg_rd_s (B : mg_Bd n ax ay mx my mc) (hn : n ≤ 24) {p g : Nat} (hg : g < 4) (hk : g < k) (h0 : mg_mV ax ay mx my mc G n g = 0) :
    mg_d ax ay (mg_mv k G n (fun g => mg_sm ax ay G (nI g) 0 n) mx) (mg_mv k G n (fun g => mg_sm ax ay G (nI g) 1 n) my) (mg_mv k G n (fun g => mg_sz G (nI g) n) mc) p g * mg_l mc g = mg_d ax ay mx my mc p g * mg_l (mg_mv k G n (fun g => mg_sz G (nI g) n) mc) g := by
  unfold mg_mV at h0
  unfold mg_d mg_l mg_mv
  by_cases q : 0 < mg_sz G (nI g) n
  · rw [if_pos q] at h0
    have q2 : g < k ∧ 0 < mg_sz G (nI g) n := ⟨hk, q⟩
    simp only [if_pos q2]
    obtain ⟨c, hc, e, b1, b2⟩ := mg_sm_c (ax := ax) (ay := ay) 0 ax (mg_sv0 ax ay) G (nI g) n hn (fun p hp => (B.1 p hp).1)
    obtain ⟨c2, hc2, f, b3, b4⟩ := mg_sm_c (ax := ax) (ay := ay) 1 ay (mg_sv1 ax ay) G (nI g) n hn (fun p hp => (B.1 p hp).2)
    have hcc : c2 = c := (nI_eq (by omega) (by omega)).mp (f.symm.trans e)
    subst hcc
    obtain ⟨hm, hmx, hmy⟩ := B.2 g hg
    have hs : (mg_sz G (nI g) n).toInt = c2 := by rw [e]; exact nI_toInt (by omega)
    have key : ∀ {s m : Int32}, -(50 * (c2 : Int)) ≤ s.toInt ∧ s.toInt ≤ 50 * (c2 : Int) → -(50 * (mc g).toInt) ≤ m.toInt ∧ m.toInt ≤ 50 * (mc g).toInt → s * mc g = m * mg_sz G (nI g) n → s.toInt * (mc g).toInt = m.toInt * (mg_sz G (nI g) n).toInt := by
      intro s m hs1 hm1 he
      have w1 := mg_mulb (a := s.toInt) (b := (mc g).toInt) (A := 1200) (B := 24) (by omega) (by omega) (by omega) (by omega)
      have w2 := mg_mulb (a := m.toInt) (b := (mg_sz G (nI g) n).toInt) (A := 1200) (B := 24) (by omega) (by omega) (by omega) (by omega)
      have z := congrArg Int32.toInt he
      rw [Jvm.Kit.i32_mul (by omega) (by omega), Jvm.Kit.i32_mul (by omega) (by omega)] at z
      exact z
    by_cases q3 : mg_sm ax ay G (nI g) 0 n * mc g = mx g * mg_sz G (nI g) n ∧ mg_sm ax ay G (nI g) 1 n * mc g = my g * mg_sz G (nI g) n
    · exact mg_same (key ⟨b1, b2⟩ hmx q3.1) (key ⟨b3, b4⟩ hmy q3.2)
    · rw [if_neg q3] at h0
      exact absurd h0 (by decide)
  · have q2 : ¬ (g < k ∧ 0 < mg_sz G (nI g) n) := fun z => q z.2
    simp only [if_neg q2]
/-- a round keeps the invariant -/
theorem mg_rd_iv (I : mg_Iv n k ax ay mx my mc mb mv) (hn : n ≤ 24) (hk : 1 ≤ k ∧ k ≤ 4) (hG : G = mg_rs n mb (mg_nF ax ay mx my mc k)) (hv : ∀ h, h < k → mv2 h = mg_mV ax ay mx my mc G n h) :
    mg_Iv n k ax ay (mg_mv k G n (fun g => mg_sm ax ay G (nI g) 0 n) mx) (mg_mv k G n (fun g => mg_sm ax ay G (nI g) 1 n) my) (mg_mv k G n (fun g => mg_sz G (nI g) n) mc) G mv2 := by
  have B := I.1
  have B2 := mg_rd_b B hn G k
  refine ⟨B2, fun p hp => Or.inr ?_⟩
  have hle := mg_nr_le ax ay mx my mc p (k - 1)
  refine ⟨mg_nr ax ay mx my mc p (k - 1), by omega, by rw [hG, mg_rs_in hp]; rfl, fun h hh m1 m2 => ?_⟩
  rw [hv _ (by omega)] at m1
  rw [hv _ hh] at m2
  have ho : mg_nr ax ay mx my mc p (k - 1) < k := by omega
  have hmin := mg_nr_min B hp (k - 1) (by omega) h (by omega)
  generalize mg_nr ax ay mx my mc p (k - 1) = o at *
  have s1 := mg_rd_s (k := k) B hn (p := p) (show o < 4 by omega) ho m1
  have s2 := mg_rd_s (k := k) B hn (p := p) (show h < 4 by omega) hh m2
  have p1 := mg_l_b B (show o < 4 by omega)
  have p2 := mg_l_b B (show h < 4 by omega)
  have p3 := mg_l_b B2 (show o < 4 by omega)
  have p4 := mg_l_b B2 (show h < 4 by omega)
  obtain ⟨t1, t2⟩ := mg_tf (by omega) (by omega) (by omega) (by omega) s1 s2
  rcases hmin with z | ⟨z, z2⟩
  · exact Or.inl (t1 z)
  · exact Or.inr ⟨t2 z, z2⟩
/-- reset sets it up -/
theorem mg_rs_iv {sx sy : AR} (hn : n ≤ 24) (hp : ∀ p, p < n → (-50 ≤ (ax p).toInt ∧ (ax p).toInt ≤ 50) ∧ (-50 ≤ (ay p).toInt ∧ (ay p).toInt ≤ 50)) (hs : ∀ g, g < 4 → (-50 ≤ (sx g).toInt ∧ (sx g).toInt ≤ 50) ∧ (-50 ≤ (sy g).toInt ∧ (sy g).toInt ≤ 50)) :
    mg_Iv n k ax ay (mg_rs 4 mx sx) (mg_rs 4 my sy) (mg_rs 4 mc mg_o1) (mg_rs 24 mb mg_om) mv := by
  refine ⟨⟨hp, fun g hg => ?_⟩, fun p hp => Or.inl (mg_rs_in (by omega))⟩
  rw [mg_rs_in hg, mg_rs_in hg, mg_rs_in hg]
  have := hs g hg
  have e : (mg_o1 g).toInt = 1 := show (nI 1).toInt = 1 by decide
  rw [e]
  omega
end PL2
end
section
/-! the component: nearestGroup -/
theorem mg_cp {n : Nat} {ax ay mx my mc : AR} (B : mg_Bd n ax ay mx my mc) {p g h : Nat} (hp : p < n) (hg : g < 4) (hh : h < 4) : (mg_up ax ay mx my mc p g * mg_lo mc h).toInt = mg_d ax ay mx my mc p g * mg_l mc h := by
  obtain ⟨e1, b1, c1⟩ := mg_up_i B hp hg
  have l2 := mg_l_b B hh
  exact mg_pr e1 (mg_lo_i B hh) ⟨b1, c1⟩ ⟨by omega, l2.2⟩ (by decide)
theorem mg_c_lt {n : Nat} {ax ay mx my mc : AR} (B : mg_Bd n ax ay mx my mc) {p g h : Nat} (hp : p < n) (hg : g < 4) (hh : h < 4) (q : lg_cmp (mg_up ax ay mx my mc p g * mg_lo mc h) (mg_up ax ay mx my mc p h * mg_lo mc g) < 0) : mg_le ax ay mx my mc p g h :=
  Or.inl ((mg_lt_i B hp hg hh).mp ((lg_cmp_lt _ _).mp q))
theorem mg_c_gt {n : Nat} {ax ay mx my mc : AR} (B : mg_Bd n ax ay mx my mc) {p g h : Nat} (hp : p < n) (hg : g < 4) (hh : h < 4) (q : ¬ lg_cmp (mg_up ax ay mx my mc p g * mg_lo mc h) (mg_up ax ay mx my mc p h * mg_lo mc g) < 0) (q2 : ¬ lg_cmp (mg_up ax ay mx my mc p g * mg_lo mc h) (mg_up ax ay mx my mc p h * mg_lo mc g) = 0) : mg_le ax ay mx my mc p h g := by
  refine Or.inl ?_
  have a := mt (lg_cmp_lt _ _).mpr q
  have b := mt (lg_cmp_eq _ _).mpr q2
  rw [Int64.lt_iff_toInt_lt, mg_cp B hp hg hh, mg_cp B hp hh hg] at a
  rw [← Int64.toInt_inj, mg_cp B hp hg hh, mg_cp B hp hh hg] at b
  omega
theorem mg_c_eq {n : Nat} {ax ay mx my mc : AR} (B : mg_Bd n ax ay mx my mc) {p g h : Nat} (hp : p < n) (hg : g < 4) (hh : h < 4) (q : lg_cmp (mg_up ax ay mx my mc p g * mg_lo mc h) (mg_up ax ay mx my mc p h * mg_lo mc g) = 0) : mg_d ax ay mx my mc p g * mg_l mc h = mg_d ax ay mx my mc p h * mg_l mc g := by
  have b := congrArg Int64.toInt ((lg_cmp_eq _ _).mp q)
  rwa [mg_cp B hp hg hh, mg_cp B hp hh hg] at b
section GX5
variable {p : Program} {l : Launch} {e : Env} {R : Room} {s : State} {m : MethodId} {args : Array Value} {below : List Frame} {meth : Method} {c : Code} {H : Heap} {locs : List Loc} {cells slots : Nat} {Q : State → Prop}
variable {cc : ByteArray} {ret : Option FieldType} {nL : Nat} {own : String} {A : Nat → Prop} {D : va_G} {pc : Nat} {ls : Array Slot} {rest : List Value}

set_option maxHeartbeats 4000000 in
set_option maxRecDepth 100000 in
/-- nearestGroup, a loop -/
theorem lX_nearestGroup1 {a : Nat → Nat} {cI cZ : ClassId} {pt : Int32} {ax ay sx sy mx my mc mv mb qx qy qc : AR} {n N pp : Nat} {st : Int32} (C : mg_cx p s m args meth c cX0_nearestGroup ret 15 RX0 A) (hN : 1 ≤ N ∧ N ≤ 4) (hn : n ≤ 24) (hp : pp < n) (B : mg_Bd n ax ay mx my mc)
    (go : ∀ (b : Nat) (up lo : Int64) (H : Heap) (locs : List Loc) (ls : Array Slot), b < N → (∀ h, h < N → mg_le ax ay mx my mc pp b h) → mg_wd D (mg_ty cI cZ) A s (wX a cI cZ pt (nI N) ax ay sx sy mx my mc mv mb qx qy qc up lo) H locs → lv_has ls 15 [(3, .int (nI b))] → W p l e (mg_R 2 54) s m args below meth c H locs 0 0 Q (F0 m 190 ls [])) :
    ∀ (n i : Nat) (b : Nat) (up lo : Int64), i ≤ N → N < i + n → b < N → (∀ h, h < i → mg_le ax ay mx my mc pp b h) → (¬ st = 0 → ∀ h, h < N → mv h = 0 → mg_le ax ay mx my mc pp b h) → ∀ (H : Heap) (locs : List Loc) (ls : Array Slot), mg_wd D (mg_ty cI cZ) A s (wX a cI cZ pt (nI N) ax ay sx sy mx my mc mv mb qx qy qc up lo) H locs → lv_has ls 15 [(9, .int (nI i)), (3, .int (nI b)), (4, .long (mg_up ax ay mx my mc pp b)), (6, .long (mg_lo mc b)), (8, .int st), (0, .ref (a 0)), (1, .int (nI pp))] → W p l e (mg_R 2 54) s m args below meth c H locs 0 0 Q (F0 m 66 ls []) := by
  obtain ⟨hx, hb, hr, hml, hown, hts, hlk, hA⟩ := id C
  intro n
  induction n with
  | zero => intro i b up lo h1 h2; exact absurd h2 (by omega)
  | succ n ih =>
    intro i b up lo hi hin hb4 hv hst H locs ls G hl
    have next : ∀ (b : Nat) (up lo : Int64) (H : Heap) (locs : List Loc) (ls : Array Slot), b < N → (∀ h, h < i + 1 → mg_le ax ay mx my mc pp b h) → (¬ st = 0 → ∀ h, h < N → mv h = 0 → mg_le ax ay mx my mc pp b h) → i < N → mg_wd D (mg_ty cI cZ) A s (wX a cI cZ pt (nI N) ax ay sx sy mx my mc mv mb qx qy qc up lo) H locs → lv_has ls 15 [(9, .int (nI i)), (3, .int (nI b)), (4, .long (mg_up ax ay mx my mc pp b)), (6, .long (mg_lo mc b)), (8, .int st), (0, .ref (a 0)), (1, .int (nI pp))] → W p l e (mg_R 2 54) s m args below meth c H locs 0 0 Q (F0 m 184 ls []) := by
      intro b up lo H locs ls g1 g2 g3 hi G hl
      refine lv_iinc (lv' := [(9, _), (3, _), (4, _), (6, _), (8, _), (0, _), (1, _)]) hx hb dX0_nearestGroup_184 hl (k := 0) rfl (mg_inc _) (by decide) rfl (fun ls hl => ?_)
      refine lv_goto (tgt := 66) hx hb dX0_nearestGroup_187 (by decide) ?_
      exact ih (i + 1) b up lo (by omega) (by omega) g1 g2 g3 H locs ls G hl
    have stay : mg_le ax ay mx my mc pp b i → ∀ h, h < i + 1 → mg_le ax ay mx my mc pp b h := by
      intro q h hh
      by_cases e : h = i
      · subst e; exact q
      · exact hv h (by omega)
    have move : i < N → mg_le ax ay mx my mc pp i b → (∀ h, h < i + 1 → mg_le ax ay mx my mc pp i h) ∧ (¬ st = 0 → ∀ h, h < N → mv h = 0 → mg_le ax ay mx my mc pp i h) := by
      intro hi2 q
      refine ⟨fun h hh => ?_, fun z h hh hm => mg_le_tr B (by omega) (by omega) (by omega) q (hst z h hh hm)⟩
      by_cases e : h = i
      · subst e; exact mg_le_rf pp h
      · exact mg_le_tr B (by omega) (by omega) (by omega) q (hv h (by omega))
    have far : i < N → ∀ (up lo : Int64) (H : Heap) (locs : List Loc) (ls : Array Slot), mg_wd D (mg_ty cI cZ) A s (wX a cI cZ pt (nI N) ax ay sx sy mx my mc mv mb qx qy qc up lo) H locs → lv_has ls 15 [(9, .int (nI i)), (3, .int (nI b)), (4, .long (mg_up ax ay mx my mc pp b)), (6, .long (mg_lo mc b)), (8, .int st), (0, .ref (a 0)), (1, .int (nI pp))] → W p l e (mg_R 2 54) s m args below meth c H locs 0 0 Q (F0 m 95 ls [.int 0]) := by
      intro hi2 up lo H locs ls G hl
      refine lv_istore (lv' := [(10, _), (9, _), (3, _), (4, _), (6, _), (8, _), (0, _), (1, _)]) hx hb dX0_nearestGroup_95 hl (by decide) rfl (fun ls hl => ?_)
      refine lv_iload hx hb dX0_nearestGroup_97 (lv_at hl 1 rfl) ?_
      refine lv_iload_n hx hb dX0_nearestGroup_99 rfl (lv_at hl 2 rfl) ?_
      refine mg_ieq (tgt := 184) hx hb (by omega) (by omega) dX0_nearestGroup_100 (by decide) (fun h3 => ?_) (fun h3 => ?_)
      · subst h3
        exact next i _ _ H locs ls (by omega) (stay (mg_le_rf pp i)) hst hi2 G (lv_sub hl [1, 2, 3, 4, 5, 6, 7] rfl)
      · refine lv_iload hx hb dX0_nearestGroup_103 (lv_at hl 0 rfl) ?_
        refine lv_if_ne (tgt := 184) hx hb dX0_nearestGroup_105 (by decide) (fun h4 => False.elim (h4 rfl)) (fun _ => ?_)
        refine lv_aload_n hx hb dX0_nearestGroup_108 rfl (lv_at hl 6 rfl) ?_
        refine lv_iload_n hx hb dX0_nearestGroup_109 rfl (lv_at hl 2 rfl) ?_
        refine lv_iload hx hb dX0_nearestGroup_110 (lv_at hl 1 rfl) ?_
        refine lv_lload hx hb dX0_nearestGroup_112 (lv_at hl 3 rfl) ?_
        refine lv_lload hx hb dX0_nearestGroup_114 (lv_at hl 4 rfl) ?_
        refine iX_farBeyond C G (by omega) (by omega) ⟨Nat.le_of_ble_eq_true rfl, Nat.le_of_ble_eq_true rfl⟩ ⟨Nat.zero_le _, Nat.zero_le _⟩ hl.1 (Nat.le_of_ble_eq_true rfl) dX0_nearestGroup_116 (fun r1 H locs hr1 G => ?_)
        refine lv_if_ne (tgt := 184) hx hb dX0_nearestGroup_119 (by decide) (fun h5 => ?_) (fun h5 => ?_)
        · exact next b _ _ H locs ls (by omega) (stay (Or.inl (mg_fB_i B hp (by omega) (by omega) (mg_b1 hr1 h5)))) hst hi2 G (lv_sub hl [1, 2, 3, 4, 5, 6, 7] rfl)
        · refine lv_aload_n hx hb dX0_nearestGroup_122 rfl (lv_at hl 6 rfl) ?_
          refine lv_iload_n hx hb dX0_nearestGroup_123 rfl (lv_at hl 7 rfl) ?_
          refine lv_iload hx hb dX0_nearestGroup_124 (lv_at hl 1 rfl) ?_
          refine iX_measure C G (by omega) (by omega) ⟨Nat.le_of_ble_eq_true rfl, Nat.le_of_ble_eq_true rfl⟩ ⟨Nat.zero_le _, Nat.zero_le _⟩ hl.1 (Nat.le_of_ble_eq_true rfl) dX0_nearestGroup_126 (fun H locs G => ?_)
          refine lv_aload_n hx hb dX0_nearestGroup_129 rfl (lv_at hl 6 rfl) ?_
          refine gX_up C G dX0_nearestGroup_130 ?_
          refine lv_lload hx hb dX0_nearestGroup_133 (lv_at hl 4 rfl) ?_
          refine lv_lmul hx hb dX0_nearestGroup_135 ?_
          refine lv_lstore (lv' := [(11, _), (10, _), (9, _), (3, _), (4, _), (6, _), (8, _), (0, _), (1, _)]) hx hb dX0_nearestGroup_136 hl (by decide) rfl (fun ls hl => ?_)
          refine lv_lload hx hb dX0_nearestGroup_138 (lv_at hl 4 rfl) ?_
          refine lv_aload_n hx hb dX0_nearestGroup_140 rfl (lv_at hl 7 rfl) ?_
          refine gX_lo C G dX0_nearestGroup_141 ?_
          refine lv_lmul hx hb dX0_nearestGroup_144 ?_
          refine lv_lstore (lv' := [(13, _), (11, _), (10, _), (9, _), (3, _), (4, _), (6, _), (8, _), (0, _), (1, _)]) hx hb dX0_nearestGroup_145 hl (by decide) rfl (fun ls hl => ?_)
          refine lv_lload hx hb dX0_nearestGroup_147 (lv_at hl 1 rfl) ?_
          refine lv_lload hx hb dX0_nearestGroup_149 (lv_at hl 0 rfl) ?_
          refine W.lcmp hx hb dX0_nearestGroup_151 ?_
          refine lv_if_lt (tgt := 169) hx hb dX0_nearestGroup_152 (by decide) (fun h6 => ?_) (fun h6 => ?_)
          · have mo := move hi2 (mg_c_lt B hp (by omega) (by omega) h6)
            refine lv_iload hx hb dX0_nearestGroup_169 (lv_at hl 3 rfl) ?_
            refine lv_istore_n (lv' := [(3, _), (13, _), (11, _), (10, _), (9, _), (4, _), (6, _), (8, _), (0, _), (1, _)]) hx hb dX0_nearestGroup_171 rfl hl (by decide) rfl (fun ls hl => ?_)
            refine lv_aload_n hx hb dX0_nearestGroup_172 rfl (lv_at hl 8 rfl) ?_
            refine gX_up C G dX0_nearestGroup_173 ?_
            refine lv_lstore (lv' := [(4, _), (3, _), (13, _), (11, _), (10, _), (9, _), (6, _), (8, _), (0, _), (1, _)]) hx hb dX0_nearestGroup_176 hl (by decide) rfl (fun ls hl => ?_)
            refine lv_aload_n hx hb dX0_nearestGroup_178 rfl (lv_at hl 8 rfl) ?_
            refine gX_lo C G dX0_nearestGroup_179 ?_
            refine lv_lstore (lv' := [(6, _), (4, _), (3, _), (13, _), (11, _), (10, _), (9, _), (8, _), (0, _), (1, _)]) hx hb dX0_nearestGroup_182 hl (by decide) rfl (fun ls hl => ?_)
            exact next i _ _ H locs ls (by omega) mo.1 mo.2 hi2 G (lv_sub hl [6, 2, 1, 0, 7, 8, 9] rfl)
          · refine lv_lload hx hb dX0_nearestGroup_155 (lv_at hl 1 rfl) ?_
            refine lv_lload hx hb dX0_nearestGroup_157 (lv_at hl 0 rfl) ?_
            refine W.lcmp hx hb dX0_nearestGroup_159 ?_
            refine lv_if_ne (tgt := 184) hx hb dX0_nearestGroup_160 (by decide) (fun h7 => ?_) (fun h7 => ?_)
            · exact next b _ _ H locs ls (by omega) (stay (mg_c_gt B hp (by omega) (by omega) h6 h7)) hst hi2 G (lv_sub hl [3, 4, 5, 6, 7, 8, 9] rfl)
            · refine lv_iload hx hb dX0_nearestGroup_163 (lv_at hl 3 rfl) ?_
              refine lv_iload_n hx hb dX0_nearestGroup_165 rfl (lv_at hl 4 rfl) ?_
              refine mg_ige (tgt := 184) hx hb (by omega) (by omega) dX0_nearestGroup_166 (by decide) (fun h8 => ?_) (fun h8 => ?_)
              · exact next b _ _ H locs ls (by omega) (stay (Or.inr ⟨(mg_c_eq B hp (by omega) (by omega) h7).symm, h8⟩)) hst hi2 G (lv_sub hl [3, 4, 5, 6, 7, 8, 9] rfl)
              · have mo := move hi2 (Or.inr ⟨mg_c_eq B hp (by omega) (by omega) h7, by omega⟩)
                refine lv_iload hx hb dX0_nearestGroup_169 (lv_at hl 3 rfl) ?_
                refine lv_istore_n (lv' := [(3, _), (13, _), (11, _), (10, _), (9, _), (4, _), (6, _), (8, _), (0, _), (1, _)]) hx hb dX0_nearestGroup_171 rfl hl (by decide) rfl (fun ls hl => ?_)
                refine lv_aload_n hx hb dX0_nearestGroup_172 rfl (lv_at hl 8 rfl) ?_
                refine gX_up C G dX0_nearestGroup_173 ?_
                refine lv_lstore (lv' := [(4, _), (3, _), (13, _), (11, _), (10, _), (9, _), (6, _), (8, _), (0, _), (1, _)]) hx hb dX0_nearestGroup_176 hl (by decide) rfl (fun ls hl => ?_)
                refine lv_aload_n hx hb dX0_nearestGroup_178 rfl (lv_at hl 8 rfl) ?_
                refine gX_lo C G dX0_nearestGroup_179 ?_
                refine lv_lstore (lv' := [(6, _), (4, _), (3, _), (13, _), (11, _), (10, _), (9, _), (8, _), (0, _), (1, _)]) hx hb dX0_nearestGroup_182 hl (by decide) rfl (fun ls hl => ?_)
                exact next i _ _ H locs ls (by omega) mo.1 mo.2 hi2 G (lv_sub hl [6, 2, 1, 0, 7, 8, 9] rfl)
    refine lv_iload hx hb dX0_nearestGroup_66 (lv_at hl 0 rfl) ?_
    refine lv_aload_n hx hb dX0_nearestGroup_68 rfl (lv_at hl 5 rfl) ?_
    refine gX_kk C G dX0_nearestGroup_69 ?_
    refine mg_ige (tgt := 190) hx hb (by omega) (by omega) dX0_nearestGroup_72 (by decide) (fun hi2 => ?_) (fun hi2 => ?_)
    · obtain rfl : i = N := by omega
      exact go b up lo H locs ls hb4 hv G (lv_sub hl [1] rfl)
    · refine lv_iload hx hb dX0_nearestGroup_75 (lv_at hl 4 rfl) ?_
      refine lv_if_eq (tgt := 94) hx hb dX0_nearestGroup_77 (by decide) (fun h2 => ?_) (fun h2 => ?_)
      · refine lv_iconst (v := (0)) hx hb dX0_nearestGroup_94 (by decide) ?_
        exact far hi2 _ _ H locs ls G hl
      · refine lv_aload_n hx hb dX0_nearestGroup_80 rfl (lv_at hl 5 rfl) ?_
        refine gX_mv C G dX0_nearestGroup_81 ?_
        refine lv_iload hx hb dX0_nearestGroup_84 (lv_at hl 0 rfl) ?_
        refine lX_mv C G (by omega) dX0_nearestGroup_86 ?_
        refine lv_if_ne (tgt := 94) hx hb dX0_nearestGroup_87 (by decide) (fun h3 => ?_) (fun h3 => ?_)
        · refine lv_iconst (v := (0)) hx hb dX0_nearestGroup_94 (by decide) ?_
          exact far hi2 _ _ H locs ls G hl
        · refine lv_iconst (v := (1)) hx hb dX0_nearestGroup_90 (by decide) ?_
          refine lv_goto (tgt := 95) hx hb dX0_nearestGroup_91 (by decide) ?_
          refine lv_istore (lv' := [(10, _), (9, _), (3, _), (4, _), (6, _), (8, _), (0, _), (1, _)]) hx hb dX0_nearestGroup_95 hl (by decide) rfl (fun ls hl => ?_)
          refine lv_iload hx hb dX0_nearestGroup_97 (lv_at hl 1 rfl) ?_
          refine lv_iload_n hx hb dX0_nearestGroup_99 rfl (lv_at hl 2 rfl) ?_
          refine mg_ieq (tgt := 184) hx hb (by omega) (by omega) dX0_nearestGroup_100 (by decide) (fun h4 => ?_) (fun h4 => ?_)
          · exact next b _ _ H locs ls hb4 (stay (hst h2 i hi2 h3)) hst hi2 G (lv_sub hl [1, 2, 3, 4, 5, 6, 7] rfl)
          · refine lv_iload hx hb dX0_nearestGroup_103 (lv_at hl 0 rfl) ?_
            refine lv_if_ne (tgt := 184) hx hb dX0_nearestGroup_105 (by decide) (fun _ => ?_) (fun h5 => False.elim (absurd h5 (by decide)))
            exact next b _ _ H locs ls hb4 (stay (hst h2 i hi2 h3)) hst hi2 G (lv_sub hl [1, 2, 3, 4, 5, 6, 7] rfl)
set_option maxHeartbeats 4000000 in
set_option maxRecDepth 100000 in
/-- nearestGroup(p) -/
theorem kX_nearestGroup (l : Launch) (D : va_G) (a : Nat → Nat) (cI cZ : ClassId) (pt : Int32) (ax ay sx sy mx my mc mv mb qx qy qc : AR) (up lo : Int64) (sz : Nat) (n k pp : Nat) (hn : n ≤ 24) (hk : 1 ≤ k ∧ k ≤ 4) (hp : pp < n) (B : mg_Bd n ax ay mx my mc) (hm : mb pp = -1 ∨ ∃ o, o < k ∧ mb pp = nI o ∧ ∀ h, h < k → mv o = 0 → mv h = 0 → mg_le ax ay mx my mc pp o h) : Met l yX0_nearestGroup (ws_ yX0_nearestGroup cX0_nearestGroup 15 (some .int)) (mg_R 2 54) (va_Pc [.ref (a 0), .int (nI pp)] (mg_pre D (mg_ty cI cZ) (wX a cI cZ pt (nI k) ax ay sx sy mx my mc mv mb qx qy qc up lo) sz)) (va_Qi (fun (r : Int32) (u : Int64 × Int64) => r = nI (mg_nr ax ay mx my mc pp (k - 1))) (mg_bk D (mg_ty cI cZ) (fun (u : Int64 × Int64) => wX a cI cZ pt (nI k) ax ay sx sy mx my mc mv mb qx qy qc (u.1) (u.2)) (va_A (wX a cI cZ pt (nI k) ax ay sx sy mx my mc mv mb qx qy qc up lo) sz)) (va_A (wX a cI cZ pt (nI k) ax ay sx sy mx my mc mv mb qx qy qc up lo) sz)) 0 0 (va_A (wX a cI cZ pt (nI k) ax ay sx sy mx my mc mv mb qx qy qc up lo) sz) := by
  refine mg_meti (by decide) (Nat.le_of_ble_eq_true rfl) ?_
  intro p e s m below meth c A ls C hin G hl
  have C : mg_cx p s m _ meth c cX0_nearestGroup (some .int) 15 RX0 A := C
  obtain ⟨hx, hb, hr, hml, hown, hts, hlk, hA⟩ := id C
  have hl : lv_has ls 15 [(0, _), (1, _)] := hl
  refine lv_aload_n hx hb dX0_nearestGroup_0 rfl (lv_at hl 0 rfl) ?_
  refine gX_mb C G dX0_nearestGroup_1 ?_
  refine lv_iload_n hx hb dX0_nearestGroup_4 rfl (lv_at hl 1 rfl) ?_
  refine lX_mb C G (by omega) dX0_nearestGroup_5 ?_
  refine lv_topi (fun own ev => ?_)
  rcases hm with hm | ⟨o, ho, hm, hle⟩
  · rw [hm] at ev
    subst ev
    refine lv_istore_n (lv' := [(2, _), (0, _), (1, _)]) hx hb dX0_nearestGroup_6 rfl hl (by decide) rfl (fun ls hl => ?_)
    refine lv_iload_n hx hb dX0_nearestGroup_7 rfl (lv_at hl 0 rfl) ?_
    refine lv_if_lt (tgt := 19) hx hb dX0_nearestGroup_8 (by decide) (fun _ => ?_) (fun h1 => False.elim (h1 (by decide)))
    refine lv_iconst (v := (nI 0)) hx hb dX0_nearestGroup_19 (by decide) ?_
    refine lv_goto (tgt := 24) hx hb dX0_nearestGroup_20 (by decide) ?_
    refine lv_istore_n (lv' := [(3, _), (2, _), (0, _), (1, _)]) hx hb dX0_nearestGroup_24 rfl hl (by decide) rfl (fun ls hl => ?_)
    refine lv_aload_n hx hb dX0_nearestGroup_25 rfl (lv_at hl 2 rfl) ?_
    refine lv_iload_n hx hb dX0_nearestGroup_26 rfl (lv_at hl 3 rfl) ?_
    refine lv_iload_n hx hb dX0_nearestGroup_27 rfl (lv_at hl 0 rfl) ?_
    refine iX_measure C G (by omega) (by omega) ⟨Nat.le_of_ble_eq_true rfl, Nat.le_of_ble_eq_true rfl⟩ ⟨Nat.zero_le _, Nat.zero_le _⟩ hl.1 (Nat.le_of_ble_eq_true rfl) dX0_nearestGroup_28 (fun H locs G => ?_)
    refine lv_aload_n hx hb dX0_nearestGroup_31 rfl (lv_at hl 2 rfl) ?_
    refine gX_up C G dX0_nearestGroup_32 ?_
    refine lv_lstore (lv' := [(4, _), (3, _), (2, _), (0, _), (1, _)]) hx hb dX0_nearestGroup_35 hl (by decide) rfl (fun ls hl => ?_)
    refine lv_aload_n hx hb dX0_nearestGroup_37 rfl (lv_at hl 3 rfl) ?_
    refine gX_lo C G dX0_nearestGroup_38 ?_
    refine lv_lstore (lv' := [(6, _), (4, _), (3, _), (2, _), (0, _), (1, _)]) hx hb dX0_nearestGroup_41 hl (by decide) rfl (fun ls hl => ?_)
    refine lv_iload_n hx hb dX0_nearestGroup_43 rfl (lv_at hl 3 rfl) ?_
    refine lv_if_lt (tgt := 60) hx hb dX0_nearestGroup_44 (by decide) (fun _ => ?_) (fun h1 => False.elim (h1 (by decide)))
    refine lv_iconst (v := (0)) hx hb dX0_nearestGroup_60 (by decide) ?_
    refine lv_istore (lv' := [(8, _), (6, _), (4, _), (3, _), (2, _), (0, _), (1, _)]) hx hb dX0_nearestGroup_61 hl (by decide) rfl (fun ls hl => ?_)
    refine lv_iconst (v := (nI 0)) hx hb dX0_nearestGroup_63 (by decide) ?_
    refine lv_istore (lv' := [(9, _), (8, _), (6, _), (4, _), (3, _), (2, _), (0, _), (1, _)]) hx hb dX0_nearestGroup_64 hl (by decide) rfl (fun ls hl => ?_)
    refine lX_nearestGroup1 (n := n) (pp := pp) C hk hn hp B (fun b up lo H locs ls g1 g2 G hl => ?_) 5 0 0 _ _ (by omega) (by omega) (by omega) (fun h hh => absurd hh (by omega)) (fun q => absurd rfl q) _ _ ls G (lv_sub hl [0, 4, 3, 2, 1, 6, 7] rfl)
    refine lv_iload_n hx hb dX0_nearestGroup_190 rfl (lv_at hl 0 rfl) ?_
    exact mg_iret C (up, lo) G (congrArg nI (mg_nr_one B hp hk g1 g2)) dX0_nearestGroup_191
  · rw [hm] at ev
    subst ev
    refine lv_istore_n (lv' := [(2, _), (0, _), (1, _)]) hx hb dX0_nearestGroup_6 rfl hl (by decide) rfl (fun ls hl => ?_)
    refine lv_iload_n hx hb dX0_nearestGroup_7 rfl (lv_at hl 0 rfl) ?_
    refine lv_if_lt (tgt := 19) hx hb dX0_nearestGroup_8 (by decide) (fun h1 => False.elim (nI_pos (by omega) h1)) (fun _ => ?_)
    refine lv_iload_n hx hb dX0_nearestGroup_11 rfl (lv_at hl 0 rfl) ?_
    refine lv_aload_n hx hb dX0_nearestGroup_12 rfl (lv_at hl 1 rfl) ?_
    refine gX_kk C G dX0_nearestGroup_13 ?_
    refine mg_ilt (tgt := 23) hx hb (by omega) (by omega) dX0_nearestGroup_16 (by decide) (fun _ => ?_) (fun h => False.elim (by omega))
    refine lv_iload_n hx hb dX0_nearestGroup_23 rfl (lv_at hl 0 rfl) ?_
    refine lv_istore_n (lv' := [(3, _), (2, _), (0, _), (1, _)]) hx hb dX0_nearestGroup_24 rfl hl (by decide) rfl (fun ls hl => ?_)
    refine lv_aload_n hx hb dX0_nearestGroup_25 rfl (lv_at hl 2 rfl) ?_
    refine lv_iload_n hx hb dX0_nearestGroup_26 rfl (lv_at hl 3 rfl) ?_
    refine lv_iload_n hx hb dX0_nearestGroup_27 rfl (lv_at hl 0 rfl) ?_
    refine iX_measure C G (by omega) (by omega) ⟨Nat.le_of_ble_eq_true rfl, Nat.le_of_ble_eq_true rfl⟩ ⟨Nat.zero_le _, Nat.zero_le _⟩ hl.1 (Nat.le_of_ble_eq_true rfl) dX0_nearestGroup_28 (fun H locs G => ?_)
    refine lv_aload_n hx hb dX0_nearestGroup_31 rfl (lv_at hl 2 rfl) ?_
    refine gX_up C G dX0_nearestGroup_32 ?_
    refine lv_lstore (lv' := [(4, _), (3, _), (2, _), (0, _), (1, _)]) hx hb dX0_nearestGroup_35 hl (by decide) rfl (fun ls hl => ?_)
    refine lv_aload_n hx hb dX0_nearestGroup_37 rfl (lv_at hl 3 rfl) ?_
    refine gX_lo C G dX0_nearestGroup_38 ?_
    refine lv_lstore (lv' := [(6, _), (4, _), (3, _), (2, _), (0, _), (1, _)]) hx hb dX0_nearestGroup_41 hl (by decide) rfl (fun ls hl => ?_)
    refine lv_iload_n hx hb dX0_nearestGroup_43 rfl (lv_at hl 3 rfl) ?_
    refine lv_if_lt (tgt := 60) hx hb dX0_nearestGroup_44 (by decide) (fun h1 => False.elim (nI_pos (by omega) h1)) (fun _ => ?_)
    refine lv_aload_n hx hb dX0_nearestGroup_47 rfl (lv_at hl 4 rfl) ?_
    refine gX_mv C G dX0_nearestGroup_48 ?_
    refine lv_iload_n hx hb dX0_nearestGroup_51 rfl (lv_at hl 2 rfl) ?_
    refine lX_mv C G (by omega) dX0_nearestGroup_52 ?_
    refine lv_if_ne (tgt := 60) hx hb dX0_nearestGroup_53 (by decide) (fun h2 => ?_) (fun h2 => ?_)
    · refine lv_iconst (v := (0)) hx hb dX0_nearestGroup_60 (by decide) ?_
      refine lv_istore (lv' := [(8, _), (6, _), (4, _), (3, _), (2, _), (0, _), (1, _)]) hx hb dX0_nearestGroup_61 hl (by decide) rfl (fun ls hl => ?_)
      refine lv_iconst (v := (nI 0)) hx hb dX0_nearestGroup_63 (by decide) ?_
      refine lv_istore (lv' := [(9, _), (8, _), (6, _), (4, _), (3, _), (2, _), (0, _), (1, _)]) hx hb dX0_nearestGroup_64 hl (by decide) rfl (fun ls hl => ?_)
      refine lX_nearestGroup1 (n := n) (pp := pp) C hk hn hp B (fun b up lo H locs ls g1 g2 G hl => ?_) 5 0 o _ _ (by omega) (by omega) (by omega) (fun h hh => absurd hh (by omega)) (fun q => absurd rfl q) _ _ ls G (lv_sub hl [0, 4, 3, 2, 1, 6, 7] rfl)
      refine lv_iload_n hx hb dX0_nearestGroup_190 rfl (lv_at hl 0 rfl) ?_
      exact mg_iret C (up, lo) G (congrArg nI (mg_nr_one B hp hk g1 g2)) dX0_nearestGroup_191
    · refine lv_iconst (v := (1)) hx hb dX0_nearestGroup_56 (by decide) ?_
      refine lv_goto (tgt := 61) hx hb dX0_nearestGroup_57 (by decide) ?_
      refine lv_istore (lv' := [(8, _), (6, _), (4, _), (3, _), (2, _), (0, _), (1, _)]) hx hb dX0_nearestGroup_61 hl (by decide) rfl (fun ls hl => ?_)
      refine lv_iconst (v := (nI 0)) hx hb dX0_nearestGroup_63 (by decide) ?_
      refine lv_istore (lv' := [(9, _), (8, _), (6, _), (4, _), (3, _), (2, _), (0, _), (1, _)]) hx hb dX0_nearestGroup_64 hl (by decide) rfl (fun ls hl => ?_)
      refine lX_nearestGroup1 (n := n) (pp := pp) C hk hn hp B (fun b up lo H locs ls g1 g2 G hl => ?_) 5 0 o _ _ (by omega) (by omega) (by omega) (fun h hh => absurd hh (by omega)) (fun _ h hh hz => hle h hh h2 hz) _ _ ls G (lv_sub hl [0, 4, 3, 2, 1, 6, 7] rfl)
      refine lv_iload_n hx hb dX0_nearestGroup_190 rfl (lv_at hl 0 rfl) ?_
      exact mg_iret C (up, lo) G (congrArg nI (mg_nr_one B hp hk g1 g2)) dX0_nearestGroup_191
theorem iX_nearestGroup {a : Nat → Nat} {cI cZ : ClassId} {pt : Int32} {ax ay sx sy mx my mc mv mb qx qy qc : AR} {up lo : Int64} {n k pp : Nat} (C : mg_cx p s m args meth c cc ret nL RX0 A) (G : mg_wd D (mg_ty cI cZ) A s (wX a cI cZ pt (nI k) ax ay sx sy mx my mc mv mb qx qy qc up lo) H locs) (hn : n ≤ 24) (hk : 1 ≤ k ∧ k ≤ 4) (hp : pp < n) (B : mg_Bd n ax ay mx my mc) (hm : mb pp = -1 ∨ ∃ o, o < k ∧ mb pp = nI o ∧ ∀ h, h < k → mv o = 0 → mv h = 0 → mg_le ax ay mx my mc pp o h) (hR : 2 + 1 ≤ R.frames ∧ 8 + (15 + 11) + 54 ≤ R.locals) (hf : cells ≤ R.cells ∧ slots ≤ R.slots) (hsz : ls.size = nL) (hrm : (rest.map fun v => v.category).sum ≤ 8) (hdg : decode cc pc = .ok (.invokevirtual 61, 3))
    (go : ∀ (r : Int32) (u : Int64 × Int64) (H1 : Heap) (locs1 : List Loc), (r = nI (mg_nr ax ay mx my mc pp (k - 1))) → mg_wd D (mg_ty cI cZ) A s (wX a cI cZ pt (nI k) ax ay sx sy mx my mc mv mb qx qy qc (u.1) (u.2)) H1 locs1 → W p l e R s m args below meth c H1 locs1 cells slots Q (F0 m (pc + 3) ls (.int r :: rest))) : W p l e R s m args below meth c H locs cells slots Q (F0 m pc ls (.int (nI pp) :: .ref (a 0) :: rest)) := by
  have hts := C.2.2.2.2.2.1
  exact mg_ci (mg_runV C G (kX_nearestGroup l D a cI cZ pt ax ay sx sy mx my mc mv mb qx qy qc up lo H.size n k pp hn hk hp B hm) (cwV 1 hts (lw_V q99 q101 qs0 q10 q102) rfl rfl rfl (by decide +kernel) hR) (ci := 0) rfl rfl rfl rfl hsz rfl hrm hdg hf) G.2.2.2 (mg_free C G) (fun r u H1 locs1 hp B => go r u H1 locs1 hp (mg_whole C G B))
end GX5
end
section
/-! the component: moveMiddles -/
theorem mg_ac_m {ax ay mb q : AR} {w v : Int32} {i o h : Nat} (ho : o < 4) (hh : h < 4) (hm : mb i = nI o) (hv : mg_sv ax ay w i = v) (e : ∀ h, h < 4 → q h = mg_sm ax ay mb (nI h) w i) : upd q o (q o + v) h = mg_sm ax ay mb (nI h) w (i + 1) := by
  unfold upd
  by_cases z : h = o
  · subst z
    rw [if_pos rfl, show mg_sm ax ay mb (nI h) w (i + 1) = _ from if_pos ⟨nI_pos (by omega), hm⟩, hv, e h hh]
  · rw [if_neg z, show mg_sm ax ay mb (nI h) w (i + 1) = _ from if_neg (fun y => mg_nI_ne (by omega) (by omega) z (y.2.symm.trans hm)), e h hh]
theorem mg_ac_z {mb q : AR} {i o h : Nat} (ho : o < 4) (hh : h < 4) (hm : mb i = nI o) (e : ∀ h, h < 4 → q h = mg_sz mb (nI h) i) : upd q o (q o + 1) h = mg_sz mb (nI h) (i + 1) := by
  unfold upd
  by_cases z : h = o
  · subst z
    rw [if_pos rfl, show mg_sz mb (nI h) (i + 1) = _ from if_pos ⟨nI_pos (by omega), hm⟩, e h hh]
  · rw [if_neg z, show mg_sz mb (nI h) (i + 1) = _ from if_neg (fun y => mg_nI_ne (by omega) (by omega) z (y.2.symm.trans hm)), e h hh]
theorem mg_ug {f : AR} {i h : Nat} {v : Int32} {P : Nat → Int32} (hv : v = P i) (e : ∀ h, h < i → f h = P h) (hh : h < i + 1) : upd f i v h = P h := by
  unfold upd
  by_cases z : h = i
  · subst z; rw [if_pos rfl]; exact hv
  · rw [if_neg z]; exact e h (by omega)
theorem mg_ug2 {f : AR} {i h : Nat} {v v1 : Int32} {P : Nat → Int32} (hv : v = P i) (e : ∀ h, h < i → f h = P h) (hh : h < i + 1) : upd (upd f i v1) i v h = P h := by
  unfold upd
  by_cases z : h = i
  · subst z; rw [if_pos rfl]; exact hv
  · rw [if_neg z, if_neg z]; exact e h (by omega)
section GX6
variable {p : Program} {l : Launch} {e : Env} {R : Room} {s : State} {m : MethodId} {args : Array Value} {below : List Frame} {meth : Method} {c : Code} {H : Heap} {locs : List Loc} {cells slots : Nat} {Q : State → Prop}
variable {cc : ByteArray} {ret : Option FieldType} {nL : Nat} {own : String} {A : Nat → Prop} {D : va_G} {pc : Nat} {ls : Array Slot} {rest : List Value}

set_option maxHeartbeats 4000000 in
set_option maxRecDepth 100000 in
/-- moveMiddles, a loop -/
theorem lX_mm1 {a : Nat → Nat} {cI cZ : ClassId} {pt kk : Int32} {ax ay sx sy mx my mc mv mb : AR} {up lo : Int64}  (C : mg_cx p s m args meth c cX0_moveMiddles ret 4 RX0 A) 
    (go : ∀ (qx qy qc : AR) (H : Heap) (locs : List Loc) (ls : Array Slot), (∀ h, h < 4 → qx h = 0 ∧ qy h = 0 ∧ qc h = 0) → mg_wd D (mg_ty cI cZ) A s (wX a cI cZ pt kk ax ay sx sy mx my mc mv mb qx qy qc up lo) H locs → lv_has ls 4 [(0, .ref (a 0))] → W p l e R s m args below meth c H locs cells slots Q (F0 m 34 ls [])) :
    ∀ (n i : Nat) (qx qy qc : AR), i ≤ 4 → 4 < i + n → (∀ h, h < i → qx h = 0 ∧ qy h = 0 ∧ qc h = 0) → ∀ (H : Heap) (locs : List Loc) (ls : Array Slot), mg_wd D (mg_ty cI cZ) A s (wX a cI cZ pt kk ax ay sx sy mx my mc mv mb qx qy qc up lo) H locs → lv_has ls 4 [(1, .int (nI i)), (0, .ref (a 0))] → W p l e R s m args below meth c H locs cells slots Q (F0 m 2 ls []) := by
  obtain ⟨hx, hb, hr, hml, hown, hts, hlk, hA⟩ := id C
  intro n
  induction n with
  | zero => intro i qx qy qc h1 h2; exact absurd h2 (by omega)
  | succ n ih =>
    intro i qx qy qc hi hin hz H locs ls G hl
    refine lv_iload_n hx hb dX0_moveMiddles_2 rfl (lv_at hl 0 rfl) ?_
    refine lv_iconst (v := (nI 4)) hx hb dX0_moveMiddles_3 (by decide) ?_
    refine mg_ige (tgt := 34) hx hb (by omega) (by omega) dX0_moveMiddles_4 (by decide) (fun h => ?_) (fun h => ?_)
    · obtain rfl : i = 4 := by omega
      exact go qx qy qc H locs ls hz G (lv_sub hl [1] rfl)
    · refine lv_aload_n hx hb dX0_moveMiddles_7 rfl (lv_at hl 1 rfl) ?_
      refine gX_qx C G dX0_moveMiddles_8 ?_
      refine lv_iload_n hx hb dX0_moveMiddles_11 rfl (lv_at hl 0 rfl) ?_
      refine lv_iconst (v := (0)) hx hb dX0_moveMiddles_12 (by decide) ?_
      refine sX_qx C G (by omega) dX0_moveMiddles_13 (fun H locs G => ?_)
      refine lv_aload_n hx hb dX0_moveMiddles_14 rfl (lv_at hl 1 rfl) ?_
      refine gX_qy C G dX0_moveMiddles_15 ?_
      refine lv_iload_n hx hb dX0_moveMiddles_18 rfl (lv_at hl 0 rfl) ?_
      refine lv_iconst (v := (0)) hx hb dX0_moveMiddles_19 (by decide) ?_
      refine sX_qy C G (by omega) dX0_moveMiddles_20 (fun H locs G => ?_)
      refine lv_aload_n hx hb dX0_moveMiddles_21 rfl (lv_at hl 1 rfl) ?_
      refine gX_qc C G dX0_moveMiddles_22 ?_
      refine lv_iload_n hx hb dX0_moveMiddles_25 rfl (lv_at hl 0 rfl) ?_
      refine lv_iconst (v := (0)) hx hb dX0_moveMiddles_26 (by decide) ?_
      refine sX_qc C G (by omega) dX0_moveMiddles_27 (fun H locs G => ?_)
      refine lv_iinc (lv' := [(1, _), (0, _)]) hx hb dX0_moveMiddles_28 hl (k := 0) rfl (mg_inc _) (by decide) rfl (fun ls hl => ?_)
      refine lv_goto (tgt := 2) hx hb dX0_moveMiddles_31 (by decide) ?_
      refine ih (i + 1) _ _ _ (by omega) (by omega) (fun h hh => ?_) H locs ls G hl
      exact ⟨mg_ug (P := fun _ => 0) rfl (fun h q => (hz h q).1) hh, mg_ug (P := fun _ => 0) rfl (fun h q => (hz h q).2.1) hh, mg_ug (P := fun _ => 0) rfl (fun h q => (hz h q).2.2) hh⟩
set_option maxHeartbeats 4000000 in
set_option maxRecDepth 100000 in
/-- moveMiddles, a loop -/
theorem lX_mm2 {a : Nat → Nat} {cI cZ : ClassId} {kk : Int32} {ax ay sx sy mx my mc mv mb : AR} {up lo : Int64} {N : Nat} (C : mg_cx p s m args meth c cX0_moveMiddles ret 4 RX0 A) (hN : N ≤ 24) (hm : ∀ p, p < N → ∃ o, o < 4 ∧ mb p = nI o)
    (go : ∀ (qx qy qc : AR) (H : Heap) (locs : List Loc) (ls : Array Slot), (∀ h, h < 4 → qx h = mg_sm ax ay mb (nI h) 0 N ∧ qy h = mg_sm ax ay mb (nI h) 1 N ∧ qc h = mg_sz mb (nI h) N) → mg_wd D (mg_ty cI cZ) A s (wX a cI cZ (nI N) kk ax ay sx sy mx my mc mv mb qx qy qc up lo) H locs → lv_has ls 4 [(0, .ref (a 0))] → W p l e R s m args below meth c H locs cells slots Q (F0 m 97 ls [])) :
    ∀ (n i : Nat) (qx qy qc : AR), i ≤ N → N < i + n → (∀ h, h < 4 → qx h = mg_sm ax ay mb (nI h) 0 i ∧ qy h = mg_sm ax ay mb (nI h) 1 i ∧ qc h = mg_sz mb (nI h) i) → ∀ (H : Heap) (locs : List Loc) (ls : Array Slot), mg_wd D (mg_ty cI cZ) A s (wX a cI cZ (nI N) kk ax ay sx sy mx my mc mv mb qx qy qc up lo) H locs → lv_has ls 4 [(1, .int (nI i)), (0, .ref (a 0))] → W p l e R s m args below meth c H locs cells slots Q (F0 m 36 ls []) := by
  obtain ⟨hx, hb, hr, hml, hown, hts, hlk, hA⟩ := id C
  intro n
  induction n with
  | zero => intro i qx qy qc h1 h2; exact absurd h2 (by omega)
  | succ n ih =>
    intro i qx qy qc hi hin hz H locs ls G hl
    refine lv_iload_n hx hb dX0_moveMiddles_36 rfl (lv_at hl 0 rfl) ?_
    refine lv_aload_n hx hb dX0_moveMiddles_37 rfl (lv_at hl 1 rfl) ?_
    refine gX_pt C G dX0_moveMiddles_38 ?_
    refine mg_ige (tgt := 97) hx hb (by omega) (by omega) dX0_moveMiddles_41 (by decide) (fun h => ?_) (fun h => ?_)
    · obtain rfl : i = N := by omega
      exact go qx qy qc H locs ls hz G (lv_sub hl [1] rfl)
    · obtain ⟨o, ho, hmo⟩ := hm i h
      refine lv_aload_n hx hb dX0_moveMiddles_44 rfl (lv_at hl 1 rfl) ?_
      refine gX_mb C G dX0_moveMiddles_45 ?_
      refine lv_iload_n hx hb dX0_moveMiddles_48 rfl (lv_at hl 0 rfl) ?_
      refine lX_mb C G (by omega) dX0_moveMiddles_49 ?_
      refine lv_topi (fun v ev => ?_)
      rw [hmo] at ev
      subst ev
      refine lv_istore_n (lv' := [(2, _), (1, _), (0, _)]) hx hb dX0_moveMiddles_50 rfl hl (by decide) rfl (fun ls hl => ?_)
      refine lv_aload_n hx hb dX0_moveMiddles_51 rfl (lv_at hl 2 rfl) ?_
      refine gX_qx C G dX0_moveMiddles_52 ?_
      refine lv_iload_n hx hb dX0_moveMiddles_55 rfl (lv_at hl 0 rfl) ?_
      refine lv_dup2_11 hx hb dX0_moveMiddles_56 rfl rfl ?_
      refine lX_qx C G (by omega) dX0_moveMiddles_57 ?_
      refine lv_aload_n hx hb dX0_moveMiddles_58 rfl (lv_at hl 2 rfl) ?_
      refine gX_ax C G dX0_moveMiddles_59 ?_
      refine lv_iload_n hx hb dX0_moveMiddles_62 rfl (lv_at hl 1 rfl) ?_
      refine lX_ax C G (by omega) dX0_moveMiddles_63 ?_
      refine lv_iadd hx hb dX0_moveMiddles_64 ?_
      refine sX_qx C G (by omega) dX0_moveMiddles_65 (fun H locs G => ?_)
      refine lv_aload_n hx hb dX0_moveMiddles_66 rfl (lv_at hl 2 rfl) ?_
      refine gX_qy C G dX0_moveMiddles_67 ?_
      refine lv_iload_n hx hb dX0_moveMiddles_70 rfl (lv_at hl 0 rfl) ?_
      refine lv_dup2_11 hx hb dX0_moveMiddles_71 rfl rfl ?_
      refine lX_qy C G (by omega) dX0_moveMiddles_72 ?_
      refine lv_aload_n hx hb dX0_moveMiddles_73 rfl (lv_at hl 2 rfl) ?_
      refine gX_ay C G dX0_moveMiddles_74 ?_
      refine lv_iload_n hx hb dX0_moveMiddles_77 rfl (lv_at hl 1 rfl) ?_
      refine lX_ay C G (by omega) dX0_moveMiddles_78 ?_
      refine lv_iadd hx hb dX0_moveMiddles_79 ?_
      refine sX_qy C G (by omega) dX0_moveMiddles_80 (fun H locs G => ?_)
      refine lv_aload_n hx hb dX0_moveMiddles_81 rfl (lv_at hl 2 rfl) ?_
      refine gX_qc C G dX0_moveMiddles_82 ?_
      refine lv_iload_n hx hb dX0_moveMiddles_85 rfl (lv_at hl 0 rfl) ?_
      refine lv_dup2_11 hx hb dX0_moveMiddles_86 rfl rfl ?_
      refine lX_qc C G (by omega) dX0_moveMiddles_87 ?_
      refine lv_iconst (v := (1)) hx hb dX0_moveMiddles_88 (by decide) ?_
      refine lv_iadd hx hb dX0_moveMiddles_89 ?_
      refine sX_qc C G (by omega) dX0_moveMiddles_90 (fun H locs G => ?_)
      refine lv_iinc (lv' := [(1, _), (2, _), (0, _)]) hx hb dX0_moveMiddles_91 hl (k := 1) rfl (mg_inc _) (by decide) rfl (fun ls hl => ?_)
      refine lv_goto (tgt := 36) hx hb dX0_moveMiddles_94 (by decide) ?_
      refine ih (i + 1) _ _ _ (by omega) (by omega) (fun h hh => ?_) H locs ls G (lv_sub hl [0, 2] rfl)
      exact ⟨mg_ac_m ho hh hmo (mg_sv0 ax ay i) (fun h q => (hz h q).1), mg_ac_m ho hh hmo (mg_sv1 ax ay i) (fun h q => (hz h q).2.1), mg_ac_z ho hh hmo (fun h q => (hz h q).2.2)⟩
set_option maxHeartbeats 4000000 in
set_option maxRecDepth 100000 in
/-- moveMiddles, a loop -/
theorem lX_mm3 {a : Nat → Nat} {cI cZ : ClassId} {ax ay sx sy mx my mc mb qx qy qc : AR} {up lo : Int64} {N n0 : Nat} (C : mg_cx p s m args meth c cX0_moveMiddles ret 4 RX0 A) (hN : N ≤ 4) (hq : (∀ h, h < 4 → qx h = mg_sm ax ay mb (nI h) 0 n0 ∧ qy h = mg_sm ax ay mb (nI h) 1 n0 ∧ qc h = mg_sz mb (nI h) n0))
    (go : ∀ (mv : AR) (H : Heap) (locs : List Loc) (ls : Array Slot), (∀ h, h < N → mv h = mg_mV ax ay mx my mc mb n0 h) → mg_wd D (mg_ty cI cZ) A s (wX a cI cZ (nI n0) (nI N) ax ay sx sy (mg_mv N mb n0 (fun g => mg_sm ax ay mb (nI g) 0 n0) mx) (mg_mv N mb n0 (fun g => mg_sm ax ay mb (nI g) 1 n0) my) (mg_mv N mb n0 (fun g => mg_sz mb (nI g) n0) mc) mv mb qx qy qc up lo) H locs → lv_has ls 4 [] → W p l e R s m args below meth c H locs cells slots Q (F0 m 254 ls [])) :
    ∀ (n i : Nat) (mv : AR), i ≤ N → N < i + n → (∀ h, h < i → mv h = mg_mV ax ay mx my mc mb n0 h) → ∀ (H : Heap) (locs : List Loc) (ls : Array Slot), mg_wd D (mg_ty cI cZ) A s (wX a cI cZ (nI n0) (nI N) ax ay sx sy (mg_mv i mb n0 (fun g => mg_sm ax ay mb (nI g) 0 n0) mx) (mg_mv i mb n0 (fun g => mg_sm ax ay mb (nI g) 1 n0) my) (mg_mv i mb n0 (fun g => mg_sz mb (nI g) n0) mc) mv mb qx qy qc up lo) H locs → lv_has ls 4 [(1, .int (nI i)), (0, .ref (a 0))] → W p l e R s m args below meth c H locs cells slots Q (F0 m 99 ls []) := by
  obtain ⟨hx, hb, hr, hml, hown, hts, hlk, hA⟩ := id C
  intro n
  induction n with
  | zero => intro i mv h1 h2; exact absurd h2 (by omega)
  | succ n ih =>
    intro i mv hi hin hv H locs ls G hl
    refine lv_iload_n hx hb dX0_moveMiddles_99 rfl (lv_at hl 0 rfl) ?_
    refine lv_aload_n hx hb dX0_moveMiddles_100 rfl (lv_at hl 1 rfl) ?_
    refine gX_kk C G dX0_moveMiddles_101 ?_
    refine mg_ige (tgt := 254) hx hb (by omega) (by omega) dX0_moveMiddles_104 (by decide) (fun h => ?_) (fun h => ?_)
    · obtain rfl : i = N := by omega
      exact go mv H locs ls hv G (lv_sub hl [] rfl)
    · obtain ⟨e1, e2, e3⟩ := hq i (by omega)
      refine lv_aload_n hx hb dX0_moveMiddles_107 rfl (lv_at hl 1 rfl) ?_
      refine gX_mv C G dX0_moveMiddles_108 ?_
      refine lv_iload_n hx hb dX0_moveMiddles_111 rfl (lv_at hl 0 rfl) ?_
      refine lv_iconst (v := (nI 0)) hx hb dX0_moveMiddles_112 (by decide) ?_
      refine sX_mv C G (by omega) dX0_moveMiddles_113 (fun H locs G => ?_)
      refine lv_aload_n hx hb dX0_moveMiddles_114 rfl (lv_at hl 1 rfl) ?_
      refine gX_qc C G dX0_moveMiddles_115 ?_
      refine lv_iload_n hx hb dX0_moveMiddles_118 rfl (lv_at hl 0 rfl) ?_
      refine lX_qc C G (by omega) dX0_moveMiddles_119 ?_
      refine lv_if_le (tgt := 248) hx hb dX0_moveMiddles_120 (by decide) (fun h1 => ?_) (fun h1 => ?_)
      · rw [e3] at h1
        refine lv_iinc (lv' := [(1, _), (0, _)]) hx hb dX0_moveMiddles_248 hl (k := 0) rfl (mg_inc _) (by decide) rfl (fun ls hl => ?_)
        refine lv_goto (tgt := 99) hx hb dX0_moveMiddles_251 (by decide) ?_
        rw [mg_mv_n (Int32.not_lt.mpr h1), mg_mv_n (Int32.not_lt.mpr h1), mg_mv_n (Int32.not_lt.mpr h1)] at G
        exact ih (i + 1) _ (by omega) (by omega) (fun h hh => mg_ug (i := i) ((if_neg (Int32.not_lt.mpr h1)).symm) hv hh) H locs ls G hl
      · rw [e3] at h1
        have h1 := Int32.not_le.mp h1
        refine lv_aload_n hx hb dX0_moveMiddles_123 rfl (lv_at hl 1 rfl) ?_
        refine gX_qx C G dX0_moveMiddles_124 ?_
        refine lv_iload_n hx hb dX0_moveMiddles_127 rfl (lv_at hl 0 rfl) ?_
        refine lX_qx C G (by omega) dX0_moveMiddles_128 ?_
        refine lv_aload_n hx hb dX0_moveMiddles_129 rfl (lv_at hl 1 rfl) ?_
        refine gX_mc C G dX0_moveMiddles_130 ?_
        refine lv_iload_n hx hb dX0_moveMiddles_133 rfl (lv_at hl 0 rfl) ?_
        refine lX_mc C G (by omega) dX0_moveMiddles_134 ?_
        refine lv_imul hx hb dX0_moveMiddles_135 ?_
        refine lv_aload_n hx hb dX0_moveMiddles_136 rfl (lv_at hl 1 rfl) ?_
        refine gX_mx C G dX0_moveMiddles_137 ?_
        refine lv_iload_n hx hb dX0_moveMiddles_140 rfl (lv_at hl 0 rfl) ?_
        refine lX_mx C G (by omega) dX0_moveMiddles_141 ?_
        refine lv_aload_n hx hb dX0_moveMiddles_142 rfl (lv_at hl 1 rfl) ?_
        refine gX_qc C G dX0_moveMiddles_143 ?_
        refine lv_iload_n hx hb dX0_moveMiddles_146 rfl (lv_at hl 0 rfl) ?_
        refine lX_qc C G (by omega) dX0_moveMiddles_147 ?_
        refine lv_imul hx hb dX0_moveMiddles_148 ?_
        refine lv_icmp_ne (tgt := 156) hx hb dX0_moveMiddles_149 (by decide) (fun h2 => ?_) (fun h2 => ?_)
        · rw [mg_mv_at, mg_mv_at, e1, e3] at h2
          refine lv_iconst (v := (nI 0)) hx hb dX0_moveMiddles_156 (by decide) ?_
          refine lv_istore_n (lv' := [(2, _), (1, _), (0, _)]) hx hb dX0_moveMiddles_157 rfl hl (by decide) rfl (fun ls hl => ?_)
          refine lv_aload_n hx hb dX0_moveMiddles_158 rfl (lv_at hl 2 rfl) ?_
          refine gX_qy C G dX0_moveMiddles_159 ?_
          refine lv_iload_n hx hb dX0_moveMiddles_162 rfl (lv_at hl 1 rfl) ?_
          refine lX_qy C G (by omega) dX0_moveMiddles_163 ?_
          refine lv_aload_n hx hb dX0_moveMiddles_164 rfl (lv_at hl 2 rfl) ?_
          refine gX_mc C G dX0_moveMiddles_165 ?_
          refine lv_iload_n hx hb dX0_moveMiddles_168 rfl (lv_at hl 1 rfl) ?_
          refine lX_mc C G (by omega) dX0_moveMiddles_169 ?_
          refine lv_imul hx hb dX0_moveMiddles_170 ?_
          refine lv_aload_n hx hb dX0_moveMiddles_171 rfl (lv_at hl 2 rfl) ?_
          refine gX_my C G dX0_moveMiddles_172 ?_
          refine lv_iload_n hx hb dX0_moveMiddles_175 rfl (lv_at hl 1 rfl) ?_
          refine lX_my C G (by omega) dX0_moveMiddles_176 ?_
          refine lv_aload_n hx hb dX0_moveMiddles_177 rfl (lv_at hl 2 rfl) ?_
          refine gX_qc C G dX0_moveMiddles_178 ?_
          refine lv_iload_n hx hb dX0_moveMiddles_181 rfl (lv_at hl 1 rfl) ?_
          refine lX_qc C G (by omega) dX0_moveMiddles_182 ?_
          refine lv_imul hx hb dX0_moveMiddles_183 ?_
          refine lv_icmp_ne (tgt := 191) hx hb dX0_moveMiddles_184 (by decide) (fun h3 => ?_) (fun h3 => ?_)
          · rw [mg_mv_at, mg_mv_at, e2, e3] at h3
            refine lv_iconst (v := (0)) hx hb dX0_moveMiddles_191 (by decide) ?_
            refine lv_istore_n (lv' := [(3, _), (2, _), (1, _), (0, _)]) hx hb dX0_moveMiddles_192 rfl hl (by decide) rfl (fun ls hl => ?_)
            refine lv_aload_n hx hb dX0_moveMiddles_193 rfl (lv_at hl 3 rfl) ?_
            refine gX_mv C G dX0_moveMiddles_194 ?_
            refine lv_iload_n hx hb dX0_moveMiddles_197 rfl (lv_at hl 2 rfl) ?_
            refine lv_iload_n hx hb dX0_moveMiddles_198 rfl (lv_at hl 1 rfl) ?_
            refine lv_if_eq (tgt := 206) hx hb dX0_moveMiddles_199 (by decide) (fun _ => ?_) (fun h4 => False.elim (h4 rfl))
            refine lv_iconst (v := (nI 1)) hx hb dX0_moveMiddles_206 (by decide) ?_
            refine lv_goto (tgt := 211) hx hb dX0_moveMiddles_207 (by decide) ?_
            refine sX_mv C G (by omega) dX0_moveMiddles_211 (fun H locs G => ?_)
            refine lv_aload_n hx hb dX0_moveMiddles_212 rfl (lv_at hl 3 rfl) ?_
            refine gX_mx C G dX0_moveMiddles_213 ?_
            refine lv_iload_n hx hb dX0_moveMiddles_216 rfl (lv_at hl 2 rfl) ?_
            refine lv_aload_n hx hb dX0_moveMiddles_217 rfl (lv_at hl 3 rfl) ?_
            refine gX_qx C G dX0_moveMiddles_218 ?_
            refine lv_iload_n hx hb dX0_moveMiddles_221 rfl (lv_at hl 2 rfl) ?_
            refine lX_qx C G (by omega) dX0_moveMiddles_222 ?_
            refine sX_mx C G (by omega) dX0_moveMiddles_223 (fun H locs G => ?_)
            refine lv_aload_n hx hb dX0_moveMiddles_224 rfl (lv_at hl 3 rfl) ?_
            refine gX_my C G dX0_moveMiddles_225 ?_
            refine lv_iload_n hx hb dX0_moveMiddles_228 rfl (lv_at hl 2 rfl) ?_
            refine lv_aload_n hx hb dX0_moveMiddles_229 rfl (lv_at hl 3 rfl) ?_
            refine gX_qy C G dX0_moveMiddles_230 ?_
            refine lv_iload_n hx hb dX0_moveMiddles_233 rfl (lv_at hl 2 rfl) ?_
            refine lX_qy C G (by omega) dX0_moveMiddles_234 ?_
            refine sX_my C G (by omega) dX0_moveMiddles_235 (fun H locs G => ?_)
            refine lv_aload_n hx hb dX0_moveMiddles_236 rfl (lv_at hl 3 rfl) ?_
            refine gX_mc C G dX0_moveMiddles_237 ?_
            refine lv_iload_n hx hb dX0_moveMiddles_240 rfl (lv_at hl 2 rfl) ?_
            refine lv_aload_n hx hb dX0_moveMiddles_241 rfl (lv_at hl 3 rfl) ?_
            refine gX_qc C G dX0_moveMiddles_242 ?_
            refine lv_iload_n hx hb dX0_moveMiddles_245 rfl (lv_at hl 2 rfl) ?_
            refine lX_qc C G (by omega) dX0_moveMiddles_246 ?_
            refine sX_mc C G (by omega) dX0_moveMiddles_247 (fun H locs G => ?_)
            refine lv_iinc (lv' := [(1, _), (3, _), (2, _), (0, _)]) hx hb dX0_moveMiddles_248 hl (k := 2) rfl (mg_inc _) (by decide) rfl (fun ls hl => ?_)
            refine lv_goto (tgt := 99) hx hb dX0_moveMiddles_251 (by decide) ?_
            rw [mg_mv_y h1 e1, mg_mv_y h1 e2, mg_mv_y h1 e3] at G
            exact ih (i + 1) _ (by omega) (by omega) (fun h hh => mg_ug2 (i := i) (((if_pos h1).trans (if_neg (fun q => h2 q.1))).symm) hv hh) H locs ls G (lv_sub hl [0, 3] rfl)
          · rw [mg_mv_at, mg_mv_at, e2, e3] at h3
            refine lv_iconst (v := (1)) hx hb dX0_moveMiddles_187 (by decide) ?_
            refine lv_goto (tgt := 192) hx hb dX0_moveMiddles_188 (by decide) ?_
            refine lv_istore_n (lv' := [(3, _), (2, _), (1, _), (0, _)]) hx hb dX0_moveMiddles_192 rfl hl (by decide) rfl (fun ls hl => ?_)
            refine lv_aload_n hx hb dX0_moveMiddles_193 rfl (lv_at hl 3 rfl) ?_
            refine gX_mv C G dX0_moveMiddles_194 ?_
            refine lv_iload_n hx hb dX0_moveMiddles_197 rfl (lv_at hl 2 rfl) ?_
            refine lv_iload_n hx hb dX0_moveMiddles_198 rfl (lv_at hl 1 rfl) ?_
            refine lv_if_eq (tgt := 206) hx hb dX0_moveMiddles_199 (by decide) (fun _ => ?_) (fun h4 => False.elim (h4 rfl))
            refine lv_iconst (v := (nI 1)) hx hb dX0_moveMiddles_206 (by decide) ?_
            refine lv_goto (tgt := 211) hx hb dX0_moveMiddles_207 (by decide) ?_
            refine sX_mv C G (by omega) dX0_moveMiddles_211 (fun H locs G => ?_)
            refine lv_aload_n hx hb dX0_moveMiddles_212 rfl (lv_at hl 3 rfl) ?_
            refine gX_mx C G dX0_moveMiddles_213 ?_
            refine lv_iload_n hx hb dX0_moveMiddles_216 rfl (lv_at hl 2 rfl) ?_
            refine lv_aload_n hx hb dX0_moveMiddles_217 rfl (lv_at hl 3 rfl) ?_
            refine gX_qx C G dX0_moveMiddles_218 ?_
            refine lv_iload_n hx hb dX0_moveMiddles_221 rfl (lv_at hl 2 rfl) ?_
            refine lX_qx C G (by omega) dX0_moveMiddles_222 ?_
            refine sX_mx C G (by omega) dX0_moveMiddles_223 (fun H locs G => ?_)
            refine lv_aload_n hx hb dX0_moveMiddles_224 rfl (lv_at hl 3 rfl) ?_
            refine gX_my C G dX0_moveMiddles_225 ?_
            refine lv_iload_n hx hb dX0_moveMiddles_228 rfl (lv_at hl 2 rfl) ?_
            refine lv_aload_n hx hb dX0_moveMiddles_229 rfl (lv_at hl 3 rfl) ?_
            refine gX_qy C G dX0_moveMiddles_230 ?_
            refine lv_iload_n hx hb dX0_moveMiddles_233 rfl (lv_at hl 2 rfl) ?_
            refine lX_qy C G (by omega) dX0_moveMiddles_234 ?_
            refine sX_my C G (by omega) dX0_moveMiddles_235 (fun H locs G => ?_)
            refine lv_aload_n hx hb dX0_moveMiddles_236 rfl (lv_at hl 3 rfl) ?_
            refine gX_mc C G dX0_moveMiddles_237 ?_
            refine lv_iload_n hx hb dX0_moveMiddles_240 rfl (lv_at hl 2 rfl) ?_
            refine lv_aload_n hx hb dX0_moveMiddles_241 rfl (lv_at hl 3 rfl) ?_
            refine gX_qc C G dX0_moveMiddles_242 ?_
            refine lv_iload_n hx hb dX0_moveMiddles_245 rfl (lv_at hl 2 rfl) ?_
            refine lX_qc C G (by omega) dX0_moveMiddles_246 ?_
            refine sX_mc C G (by omega) dX0_moveMiddles_247 (fun H locs G => ?_)
            refine lv_iinc (lv' := [(1, _), (3, _), (2, _), (0, _)]) hx hb dX0_moveMiddles_248 hl (k := 2) rfl (mg_inc _) (by decide) rfl (fun ls hl => ?_)
            refine lv_goto (tgt := 99) hx hb dX0_moveMiddles_251 (by decide) ?_
            rw [mg_mv_y h1 e1, mg_mv_y h1 e2, mg_mv_y h1 e3] at G
            exact ih (i + 1) _ (by omega) (by omega) (fun h hh => mg_ug2 (i := i) (((if_pos h1).trans (if_neg (fun q => h2 q.1))).symm) hv hh) H locs ls G (lv_sub hl [0, 3] rfl)
        · rw [mg_mv_at, mg_mv_at, e1, e3] at h2
          refine lv_iconst (v := (nI 1)) hx hb dX0_moveMiddles_152 (by decide) ?_
          refine lv_goto (tgt := 157) hx hb dX0_moveMiddles_153 (by decide) ?_
          refine lv_istore_n (lv' := [(2, _), (1, _), (0, _)]) hx hb dX0_moveMiddles_157 rfl hl (by decide) rfl (fun ls hl => ?_)
          refine lv_aload_n hx hb dX0_moveMiddles_158 rfl (lv_at hl 2 rfl) ?_
          refine gX_qy C G dX0_moveMiddles_159 ?_
          refine lv_iload_n hx hb dX0_moveMiddles_162 rfl (lv_at hl 1 rfl) ?_
          refine lX_qy C G (by omega) dX0_moveMiddles_163 ?_
          refine lv_aload_n hx hb dX0_moveMiddles_164 rfl (lv_at hl 2 rfl) ?_
          refine gX_mc C G dX0_moveMiddles_165 ?_
          refine lv_iload_n hx hb dX0_moveMiddles_168 rfl (lv_at hl 1 rfl) ?_
          refine lX_mc C G (by omega) dX0_moveMiddles_169 ?_
          refine lv_imul hx hb dX0_moveMiddles_170 ?_
          refine lv_aload_n hx hb dX0_moveMiddles_171 rfl (lv_at hl 2 rfl) ?_
          refine gX_my C G dX0_moveMiddles_172 ?_
          refine lv_iload_n hx hb dX0_moveMiddles_175 rfl (lv_at hl 1 rfl) ?_
          refine lX_my C G (by omega) dX0_moveMiddles_176 ?_
          refine lv_aload_n hx hb dX0_moveMiddles_177 rfl (lv_at hl 2 rfl) ?_
          refine gX_qc C G dX0_moveMiddles_178 ?_
          refine lv_iload_n hx hb dX0_moveMiddles_181 rfl (lv_at hl 1 rfl) ?_
          refine lX_qc C G (by omega) dX0_moveMiddles_182 ?_
          refine lv_imul hx hb dX0_moveMiddles_183 ?_
          refine lv_icmp_ne (tgt := 191) hx hb dX0_moveMiddles_184 (by decide) (fun h3 => ?_) (fun h3 => ?_)
          · rw [mg_mv_at, mg_mv_at, e2, e3] at h3
            refine lv_iconst (v := (0)) hx hb dX0_moveMiddles_191 (by decide) ?_
            refine lv_istore_n (lv' := [(3, _), (2, _), (1, _), (0, _)]) hx hb dX0_moveMiddles_192 rfl hl (by decide) rfl (fun ls hl => ?_)
            refine lv_aload_n hx hb dX0_moveMiddles_193 rfl (lv_at hl 3 rfl) ?_
            refine gX_mv C G dX0_moveMiddles_194 ?_
            refine lv_iload_n hx hb dX0_moveMiddles_197 rfl (lv_at hl 2 rfl) ?_
            refine lv_iload_n hx hb dX0_moveMiddles_198 rfl (lv_at hl 1 rfl) ?_
            refine lv_if_eq (tgt := 206) hx hb dX0_moveMiddles_199 (by decide) (fun h4 => False.elim (absurd h4 (by decide))) (fun _ => ?_)
            refine lv_iload_n hx hb dX0_moveMiddles_202 rfl (lv_at hl 0 rfl) ?_
            refine lv_if_ne (tgt := 210) hx hb dX0_moveMiddles_203 (by decide) (fun h4 => False.elim (h4 rfl)) (fun _ => ?_)
            refine lv_iconst (v := (nI 1)) hx hb dX0_moveMiddles_206 (by decide) ?_
            refine lv_goto (tgt := 211) hx hb dX0_moveMiddles_207 (by decide) ?_
            refine sX_mv C G (by omega) dX0_moveMiddles_211 (fun H locs G => ?_)
            refine lv_aload_n hx hb dX0_moveMiddles_212 rfl (lv_at hl 3 rfl) ?_
            refine gX_mx C G dX0_moveMiddles_213 ?_
            refine lv_iload_n hx hb dX0_moveMiddles_216 rfl (lv_at hl 2 rfl) ?_
            refine lv_aload_n hx hb dX0_moveMiddles_217 rfl (lv_at hl 3 rfl) ?_
            refine gX_qx C G dX0_moveMiddles_218 ?_
            refine lv_iload_n hx hb dX0_moveMiddles_221 rfl (lv_at hl 2 rfl) ?_
            refine lX_qx C G (by omega) dX0_moveMiddles_222 ?_
            refine sX_mx C G (by omega) dX0_moveMiddles_223 (fun H locs G => ?_)
            refine lv_aload_n hx hb dX0_moveMiddles_224 rfl (lv_at hl 3 rfl) ?_
            refine gX_my C G dX0_moveMiddles_225 ?_
            refine lv_iload_n hx hb dX0_moveMiddles_228 rfl (lv_at hl 2 rfl) ?_
            refine lv_aload_n hx hb dX0_moveMiddles_229 rfl (lv_at hl 3 rfl) ?_
            refine gX_qy C G dX0_moveMiddles_230 ?_
            refine lv_iload_n hx hb dX0_moveMiddles_233 rfl (lv_at hl 2 rfl) ?_
            refine lX_qy C G (by omega) dX0_moveMiddles_234 ?_
            refine sX_my C G (by omega) dX0_moveMiddles_235 (fun H locs G => ?_)
            refine lv_aload_n hx hb dX0_moveMiddles_236 rfl (lv_at hl 3 rfl) ?_
            refine gX_mc C G dX0_moveMiddles_237 ?_
            refine lv_iload_n hx hb dX0_moveMiddles_240 rfl (lv_at hl 2 rfl) ?_
            refine lv_aload_n hx hb dX0_moveMiddles_241 rfl (lv_at hl 3 rfl) ?_
            refine gX_qc C G dX0_moveMiddles_242 ?_
            refine lv_iload_n hx hb dX0_moveMiddles_245 rfl (lv_at hl 2 rfl) ?_
            refine lX_qc C G (by omega) dX0_moveMiddles_246 ?_
            refine sX_mc C G (by omega) dX0_moveMiddles_247 (fun H locs G => ?_)
            refine lv_iinc (lv' := [(1, _), (3, _), (2, _), (0, _)]) hx hb dX0_moveMiddles_248 hl (k := 2) rfl (mg_inc _) (by decide) rfl (fun ls hl => ?_)
            refine lv_goto (tgt := 99) hx hb dX0_moveMiddles_251 (by decide) ?_
            rw [mg_mv_y h1 e1, mg_mv_y h1 e2, mg_mv_y h1 e3] at G
            exact ih (i + 1) _ (by omega) (by omega) (fun h hh => mg_ug2 (i := i) (((if_pos h1).trans (if_neg (fun q => h3 q.2))).symm) hv hh) H locs ls G (lv_sub hl [0, 3] rfl)
          · rw [mg_mv_at, mg_mv_at, e2, e3] at h3
            refine lv_iconst (v := (1)) hx hb dX0_moveMiddles_187 (by decide) ?_
            refine lv_goto (tgt := 192) hx hb dX0_moveMiddles_188 (by decide) ?_
            refine lv_istore_n (lv' := [(3, _), (2, _), (1, _), (0, _)]) hx hb dX0_moveMiddles_192 rfl hl (by decide) rfl (fun ls hl => ?_)
            refine lv_aload_n hx hb dX0_moveMiddles_193 rfl (lv_at hl 3 rfl) ?_
            refine gX_mv C G dX0_moveMiddles_194 ?_
            refine lv_iload_n hx hb dX0_moveMiddles_197 rfl (lv_at hl 2 rfl) ?_
            refine lv_iload_n hx hb dX0_moveMiddles_198 rfl (lv_at hl 1 rfl) ?_
            refine lv_if_eq (tgt := 206) hx hb dX0_moveMiddles_199 (by decide) (fun h4 => False.elim (absurd h4 (by decide))) (fun _ => ?_)
            refine lv_iload_n hx hb dX0_moveMiddles_202 rfl (lv_at hl 0 rfl) ?_
            refine lv_if_ne (tgt := 210) hx hb dX0_moveMiddles_203 (by decide) (fun _ => ?_) (fun h4 => False.elim (absurd h4 (by decide)))
            refine lv_iconst (v := (nI 0)) hx hb dX0_moveMiddles_210 (by decide) ?_
            refine sX_mv C G (by omega) dX0_moveMiddles_211 (fun H locs G => ?_)
            refine lv_aload_n hx hb dX0_moveMiddles_212 rfl (lv_at hl 3 rfl) ?_
            refine gX_mx C G dX0_moveMiddles_213 ?_
            refine lv_iload_n hx hb dX0_moveMiddles_216 rfl (lv_at hl 2 rfl) ?_
            refine lv_aload_n hx hb dX0_moveMiddles_217 rfl (lv_at hl 3 rfl) ?_
            refine gX_qx C G dX0_moveMiddles_218 ?_
            refine lv_iload_n hx hb dX0_moveMiddles_221 rfl (lv_at hl 2 rfl) ?_
            refine lX_qx C G (by omega) dX0_moveMiddles_222 ?_
            refine sX_mx C G (by omega) dX0_moveMiddles_223 (fun H locs G => ?_)
            refine lv_aload_n hx hb dX0_moveMiddles_224 rfl (lv_at hl 3 rfl) ?_
            refine gX_my C G dX0_moveMiddles_225 ?_
            refine lv_iload_n hx hb dX0_moveMiddles_228 rfl (lv_at hl 2 rfl) ?_
            refine lv_aload_n hx hb dX0_moveMiddles_229 rfl (lv_at hl 3 rfl) ?_
            refine gX_qy C G dX0_moveMiddles_230 ?_
            refine lv_iload_n hx hb dX0_moveMiddles_233 rfl (lv_at hl 2 rfl) ?_
            refine lX_qy C G (by omega) dX0_moveMiddles_234 ?_
            refine sX_my C G (by omega) dX0_moveMiddles_235 (fun H locs G => ?_)
            refine lv_aload_n hx hb dX0_moveMiddles_236 rfl (lv_at hl 3 rfl) ?_
            refine gX_mc C G dX0_moveMiddles_237 ?_
            refine lv_iload_n hx hb dX0_moveMiddles_240 rfl (lv_at hl 2 rfl) ?_
            refine lv_aload_n hx hb dX0_moveMiddles_241 rfl (lv_at hl 3 rfl) ?_
            refine gX_qc C G dX0_moveMiddles_242 ?_
            refine lv_iload_n hx hb dX0_moveMiddles_245 rfl (lv_at hl 2 rfl) ?_
            refine lX_qc C G (by omega) dX0_moveMiddles_246 ?_
            refine sX_mc C G (by omega) dX0_moveMiddles_247 (fun H locs G => ?_)
            refine lv_iinc (lv' := [(1, _), (3, _), (2, _), (0, _)]) hx hb dX0_moveMiddles_248 hl (k := 2) rfl (mg_inc _) (by decide) rfl (fun ls hl => ?_)
            refine lv_goto (tgt := 99) hx hb dX0_moveMiddles_251 (by decide) ?_
            rw [mg_mv_y h1 e1, mg_mv_y h1 e2, mg_mv_y h1 e3] at G
            exact ih (i + 1) _ (by omega) (by omega) (fun h hh => mg_ug2 (i := i) (((if_pos h1).trans (if_pos ⟨h2, h3⟩)).symm) hv hh) H locs ls G (lv_sub hl [0, 3] rfl)
set_option maxHeartbeats 4000000 in
set_option maxRecDepth 100000 in
/-- moveMiddles() -/
theorem kX_moveMiddles (l : Launch) (D : va_G) (a : Nat → Nat) (cI cZ : ClassId) (ax ay sx sy mx my mc mv mb qx qy qc : AR) (up lo : Int64) (sz : Nat) (n k : Nat) (hn : n ≤ 24) (hk : k ≤ 4) (hm : ∀ p, p < n → ∃ o, o < 4 ∧ mb p = nI o) : Met l yX0_moveMiddles (ws_ yX0_moveMiddles cX0_moveMiddles 4 none) (mg_R 0 0) (va_Pc [.ref (a 0)] (mg_pre D (mg_ty cI cZ) (wX a cI cZ (nI n) (nI k) ax ay sx sy mx my mc mv mb qx qy qc up lo) sz)) (va_Qv (fun (u : AR × AR × AR × AR) => ∀ h, h < k → u.1 h = mg_mV ax ay mx my mc mb n h) (mg_bk D (mg_ty cI cZ) (fun (u : AR × AR × AR × AR) => wX a cI cZ (nI n) (nI k) ax ay sx sy (mg_mv k mb n (fun g => mg_sm ax ay mb (nI g) 0 n) mx) (mg_mv k mb n (fun g => mg_sm ax ay mb (nI g) 1 n) my) (mg_mv k mb n (fun g => mg_sz mb (nI g) n) mc) (u.1) mb (u.2.1) (u.2.2.1) (u.2.2.2) up lo) (va_A (wX a cI cZ (nI n) (nI k) ax ay sx sy mx my mc mv mb qx qy qc up lo) sz)) (va_A (wX a cI cZ (nI n) (nI k) ax ay sx sy mx my mc mv mb qx qy qc up lo) sz)) 0 0 (va_A (wX a cI cZ (nI n) (nI k) ax ay sx sy mx my mc mv mb qx qy qc up lo) sz) := by
  refine mg_metv (by decide) (Nat.le_of_ble_eq_true rfl) ?_
  intro p e s m below meth c A ls C hin G hl
  have C : mg_cx p s m _ meth c cX0_moveMiddles none 4 RX0 A := C
  obtain ⟨hx, hb, hr, hml, hown, hts, hlk, hA⟩ := id C
  have hl : lv_has ls 4 [(0, _)] := hl
  refine lv_iconst (v := (nI 0)) hx hb dX0_moveMiddles_0 (by decide) ?_
  refine lv_istore_n (lv' := [(1, _), (0, _)]) hx hb dX0_moveMiddles_1 rfl hl (by decide) rfl (fun ls hl => ?_)
  refine lX_mm1 C (fun qx qy qc H locs ls hz G hl => ?_) 5 0 _ _ _ (by omega) (by omega) (fun h hh => absurd hh (by omega)) _ _ ls G (lv_sub hl [0, 1] rfl)
  refine lv_iconst (v := (nI 0)) hx hb dX0_moveMiddles_34 (by decide) ?_
  refine lv_istore_n (lv' := [(1, _), (0, _)]) hx hb dX0_moveMiddles_35 rfl hl (by decide) rfl (fun ls hl => ?_)
  refine lX_mm2 C hn hm (fun qx qy qc H locs ls hq G hl => ?_) 25 0 _ _ _ (by omega) (by omega) hz _ _ ls G (lv_sub hl [0, 1] rfl)
  refine lv_iconst (v := (nI 0)) hx hb dX0_moveMiddles_97 (by decide) ?_
  refine lv_istore_n (lv' := [(1, _), (0, _)]) hx hb dX0_moveMiddles_98 rfl hl (by decide) rfl (fun ls hl => ?_)
  have G : mg_wd D (mg_ty cI cZ) A s (wX a cI cZ (nI n) (nI k) ax ay sx sy (mg_mv 0 mb n (fun g => mg_sm ax ay mb (nI g) 0 n) mx) (mg_mv 0 mb n (fun g => mg_sm ax ay mb (nI g) 1 n) my) (mg_mv 0 mb n (fun g => mg_sz mb (nI g) n) mc) mv mb qx qy qc up lo) H locs := by rw [mg_mv_0, mg_mv_0, mg_mv_0]; exact G
  refine lX_mm3 C hk hq (fun mv H locs ls hv G hl => ?_) 5 0 _ (by omega) (by omega) (fun h hh => absurd hh (by omega)) _ _ ls G (lv_sub hl [0, 1] rfl)
  exact mg_vret C (mv, qx, qy, qc) G hv dX0_moveMiddles_254
theorem iX_moveMiddles {a : Nat → Nat} {cI cZ : ClassId} {ax ay sx sy mx my mc mv mb qx qy qc : AR} {up lo : Int64} {n k : Nat} (C : mg_cx p s m args meth c cc ret nL RX0 A) (G : mg_wd D (mg_ty cI cZ) A s (wX a cI cZ (nI n) (nI k) ax ay sx sy mx my mc mv mb qx qy qc up lo) H locs) (hn : n ≤ 24) (hk : k ≤ 4) (hm : ∀ p, p < n → ∃ o, o < 4 ∧ mb p = nI o) (hR : 0 + 1 ≤ R.frames ∧ 8 + (4 + 11) + 0 ≤ R.locals) (hf : cells ≤ R.cells ∧ slots ≤ R.slots) (hsz : ls.size = nL) (hrm : (rest.map fun v => v.category).sum ≤ 8) (hdg : decode cc pc = .ok (.invokevirtual 65, 3))
    (go : ∀ (u : AR × AR × AR × AR) (H1 : Heap) (locs1 : List Loc), (∀ h, h < k → u.1 h = mg_mV ax ay mx my mc mb n h) → mg_wd D (mg_ty cI cZ) A s (wX a cI cZ (nI n) (nI k) ax ay sx sy (mg_mv k mb n (fun g => mg_sm ax ay mb (nI g) 0 n) mx) (mg_mv k mb n (fun g => mg_sm ax ay mb (nI g) 1 n) my) (mg_mv k mb n (fun g => mg_sz mb (nI g) n) mc) (u.1) mb (u.2.1) (u.2.2.1) (u.2.2.2) up lo) H1 locs1 → W p l e R s m args below meth c H1 locs1 cells slots Q (F0 m (pc + 3) ls (rest))) : W p l e R s m args below meth c H locs cells slots Q (F0 m pc ls (.ref (a 0) :: rest)) := by
  have hts := C.2.2.2.2.2.1
  exact mg_cv (mg_runV C G (kX_moveMiddles l D a cI cZ ax ay sx sy mx my mc mv mb qx qy qc up lo H.size n k hn hk hm) (cwV 0 hts (lw_V q116 q118 qs4 q10 q119) rfl rfl rfl (by decide +kernel) hR) (ci := 0) rfl rfl rfl rfl hsz rfl hrm hdg hf) G.2.2.2 (mg_free C G) (fun u H1 locs1 hp B => go u H1 locs1 hp (mg_whole C G B))
end GX6
end
section
/-! the component: round, settle, near -/
section GX7
variable {p : Program} {l : Launch} {e : Env} {R : Room} {s : State} {m : MethodId} {args : Array Value} {below : List Frame} {meth : Method} {c : Code} {H : Heap} {locs : List Loc} {cells slots : Nat} {Q : State → Prop}
variable {cc : ByteArray} {ret : Option FieldType} {nL : Nat} {own : String} {A : Nat → Prop} {D : va_G} {pc : Nat} {ls : Array Slot} {rest : List Value}

set_option maxHeartbeats 4000000 in
set_option maxRecDepth 100000 in
/-- round, a loop -/
theorem lX_round1 {a : Nat → Nat} {cI cZ : ClassId} {ax ay sx sy mx my mc mv mb qx qy qc : AR} {N k : Nat} (C : mg_cx p s m args meth c cX0_round ret 4 RX0 A) (hN : N ≤ 24) (hk : 1 ≤ k ∧ k ≤ 4) (I : mg_Iv N k ax ay mx my mc mb mv)
    (go : ∀ (up lo : Int64) (H : Heap) (locs : List Loc) (ls : Array Slot), mg_wd D (mg_ty cI cZ) A s (wX a cI cZ (nI N) (nI k) ax ay sx sy mx my mc mv (mg_rs N mb (mg_nF ax ay mx my mc k)) qx qy qc up lo) H locs → lv_has ls 4 [(1, .int (nI (mg_ch ax ay mx my mc mb k N))), (0, .ref (a 0))] → W p l e (mg_R 3 88) s m args below meth c H locs 0 0 Q (F0 m 49 ls [])) :
    ∀ (n i : Nat) (up lo : Int64), i ≤ N → N < i + n → ∀ (H : Heap) (locs : List Loc) (ls : Array Slot), mg_wd D (mg_ty cI cZ) A s (wX a cI cZ (nI N) (nI k) ax ay sx sy mx my mc mv (mg_rs i mb (mg_nF ax ay mx my mc k)) qx qy qc up lo) H locs → lv_has ls 4 [(1, .int (nI (mg_ch ax ay mx my mc mb k i))), (2, .int (nI i)), (0, .ref (a 0))] → W p l e (mg_R 3 88) s m args below meth c H locs 0 0 Q (F0 m 4 ls []) := by
  obtain ⟨hx, hb, hr, hml, hown, hts, hlk, hA⟩ := id C
  intro n
  induction n with
  | zero => intro i up lo h1 h2; exact absurd h2 (by omega)
  | succ n ih =>
    intro i up lo hi hin  H locs ls G hl
    refine lv_iload_n hx hb dX0_round_4 rfl (lv_at hl 1 rfl) ?_
    refine lv_aload_n hx hb dX0_round_5 rfl (lv_at hl 2 rfl) ?_
    refine gX_pt C G dX0_round_6 ?_
    refine mg_ige (tgt := 49) hx hb (by omega) (by omega) dX0_round_9 (by decide) (fun h => ?_) (fun h => ?_)
    · obtain rfl : i = N := by omega
      exact go _ _ H locs ls G (lv_sub hl [0, 2] rfl)
    · refine lv_aload_n hx hb dX0_round_12 rfl (lv_at hl 2 rfl) ?_
      refine lv_iload_n hx hb dX0_round_13 rfl (lv_at hl 1 rfl) ?_
      refine iX_nearestGroup C G hN hk h I.1 (by rw [mg_rs_out (Nat.le_refl i)]; exact I.2 i h) ⟨Nat.le_of_ble_eq_true rfl, Nat.le_of_ble_eq_true rfl⟩ ⟨Nat.zero_le _, Nat.zero_le _⟩ hl.1 (Nat.le_of_ble_eq_true rfl) dX0_round_14 (fun r1 u H locs hr1 G => ?_)
      subst hr1
      refine lv_istore_n (lv' := [(3, _), (1, _), (2, _), (0, _)]) hx hb dX0_round_17 rfl hl (by decide) rfl (fun ls hl => ?_)
      refine lv_iload_n hx hb dX0_round_18 rfl (lv_at hl 1 rfl) ?_
      refine lv_iload_n hx hb dX0_round_19 rfl (lv_at hl 0 rfl) ?_
      refine lv_aload_n hx hb dX0_round_20 rfl (lv_at hl 3 rfl) ?_
      refine gX_mb C G dX0_round_21 ?_
      refine lv_iload_n hx hb dX0_round_24 rfl (lv_at hl 2 rfl) ?_
      refine lX_mb C G (by omega) dX0_round_25 ?_
      refine lv_icmp_eq (tgt := 33) hx hb dX0_round_26 (by decide) (fun h1 => ?_) (fun h1 => ?_)
      · rw [mg_rs_out (Nat.le_refl i)] at h1
        refine lv_iconst (v := (nI 0)) hx hb dX0_round_33 (by decide) ?_
        refine mg_add hx hb dX0_round_34 ?_
        refine lv_istore_n (lv' := [(1, _), (3, _), (2, _), (0, _)]) hx hb dX0_round_35 rfl hl (by decide) rfl (fun ls hl => ?_)
        refine lv_aload_n hx hb dX0_round_36 rfl (lv_at hl 3 rfl) ?_
        refine gX_mb C G dX0_round_37 ?_
        refine lv_iload_n hx hb dX0_round_40 rfl (lv_at hl 2 rfl) ?_
        refine lv_iload_n hx hb dX0_round_41 rfl (lv_at hl 1 rfl) ?_
        refine sX_mb C G (by omega) dX0_round_42 (fun H locs G => ?_)
        refine lv_iinc (lv' := [(2, _), (1, _), (3, _), (0, _)]) hx hb dX0_round_43 hl (k := 2) rfl (mg_inc _) (by decide) rfl (fun ls hl => ?_)
        refine lv_goto (tgt := 4) hx hb dX0_round_46 (by decide) ?_
        rw [mg_rs_s i mb (mg_nF ax ay mx my mc k) (v := nI (mg_nr ax ay mx my mc i (k - 1))) rfl] at G
        exact ih (i + 1) _ _ (by omega) (by omega) H locs ls G (by rw [show mg_ch ax ay mx my mc mb k (i + 1) = _ from if_pos h1]; exact lv_sub hl [1, 0, 3] rfl)
      · rw [mg_rs_out (Nat.le_refl i)] at h1
        refine lv_iconst (v := (nI 1)) hx hb dX0_round_29 (by decide) ?_
        refine lv_goto (tgt := 34) hx hb dX0_round_30 (by decide) ?_
        refine mg_add hx hb dX0_round_34 ?_
        refine lv_istore_n (lv' := [(1, _), (3, _), (2, _), (0, _)]) hx hb dX0_round_35 rfl hl (by decide) rfl (fun ls hl => ?_)
        refine lv_aload_n hx hb dX0_round_36 rfl (lv_at hl 3 rfl) ?_
        refine gX_mb C G dX0_round_37 ?_
        refine lv_iload_n hx hb dX0_round_40 rfl (lv_at hl 2 rfl) ?_
        refine lv_iload_n hx hb dX0_round_41 rfl (lv_at hl 1 rfl) ?_
        refine sX_mb C G (by omega) dX0_round_42 (fun H locs G => ?_)
        refine lv_iinc (lv' := [(2, _), (1, _), (3, _), (0, _)]) hx hb dX0_round_43 hl (k := 2) rfl (mg_inc _) (by decide) rfl (fun ls hl => ?_)
        refine lv_goto (tgt := 4) hx hb dX0_round_46 (by decide) ?_
        rw [mg_rs_s i mb (mg_nF ax ay mx my mc k) (v := nI (mg_nr ax ay mx my mc i (k - 1))) rfl] at G
        exact ih (i + 1) _ _ (by omega) (by omega) H locs ls G (by rw [show mg_ch ax ay mx my mc mb k (i + 1) = _ from if_neg h1]; exact lv_sub hl [1, 0, 3] rfl)
set_option maxHeartbeats 4000000 in
set_option maxRecDepth 100000 in
/-- round() -/
theorem kX_round (l : Launch) (D : va_G) (a : Nat → Nat) (cI cZ : ClassId) (ax ay sx sy mx my mc mv mb qx qy qc : AR) (up lo : Int64) (sz : Nat) (n k : Nat) (hn : n ≤ 24) (hk : 1 ≤ k ∧ k ≤ 4) (I : mg_Iv n k ax ay mx my mc mb mv) : Met l yX0_round (ws_ yX0_round cX0_round 4 (some .int)) (mg_R 3 88) (va_Pc [.ref (a 0)] (mg_pre D (mg_ty cI cZ) (wX a cI cZ (nI n) (nI k) ax ay sx sy mx my mc mv mb qx qy qc up lo) sz)) (va_Qi (fun (r : Int32) (u : AR × AR × AR × AR × Int64 × Int64) => r = nI (mg_rR ax ay k n (mb, mx, my, mc)) ∧ mg_Iv n k ax ay (mg_rS ax ay k n (mb, mx, my, mc)).2.1 (mg_rS ax ay k n (mb, mx, my, mc)).2.2.1 (mg_rS ax ay k n (mb, mx, my, mc)).2.2.2 (mg_rS ax ay k n (mb, mx, my, mc)).1 u.1) (mg_bk D (mg_ty cI cZ) (fun (u : AR × AR × AR × AR × Int64 × Int64) => wX a cI cZ (nI n) (nI k) ax ay sx sy ((mg_rS ax ay k n (mb, mx, my, mc)).2.1) ((mg_rS ax ay k n (mb, mx, my, mc)).2.2.1) ((mg_rS ax ay k n (mb, mx, my, mc)).2.2.2) (u.1) ((mg_rS ax ay k n (mb, mx, my, mc)).1) (u.2.1) (u.2.2.1) (u.2.2.2.1) (u.2.2.2.2.1) (u.2.2.2.2.2)) (va_A (wX a cI cZ (nI n) (nI k) ax ay sx sy mx my mc mv mb qx qy qc up lo) sz)) (va_A (wX a cI cZ (nI n) (nI k) ax ay sx sy mx my mc mv mb qx qy qc up lo) sz)) 0 0 (va_A (wX a cI cZ (nI n) (nI k) ax ay sx sy mx my mc mv mb qx qy qc up lo) sz) := by
  refine mg_meti (by decide) (Nat.le_of_ble_eq_true rfl) ?_
  intro p e s m below meth c A ls C hin G hl
  have C : mg_cx p s m _ meth c cX0_round (some .int) 4 RX0 A := C
  obtain ⟨hx, hb, hr, hml, hown, hts, hlk, hA⟩ := id C
  have hl : lv_has ls 4 [(0, _)] := hl
  refine lv_iconst (v := (nI (mg_ch ax ay mx my mc mb k 0))) hx hb dX0_round_0 rfl ?_
  refine lv_istore_n (lv' := [(1, _), (0, _)]) hx hb dX0_round_1 rfl hl (by decide) rfl (fun ls hl => ?_)
  refine lv_iconst (v := (nI 0)) hx hb dX0_round_2 (by decide) ?_
  refine lv_istore_n (lv' := [(2, _), (1, _), (0, _)]) hx hb dX0_round_3 rfl hl (by decide) rfl (fun ls hl => ?_)
  have G : mg_wd D (mg_ty cI cZ) A s (wX a cI cZ (nI n) (nI k) ax ay sx sy mx my mc mv (mg_rs 0 mb (mg_nF ax ay mx my mc k)) qx qy qc up lo) s.heap [] := by rw [mg_rs_0]; exact G
  refine lX_round1 C hn hk I (fun up lo H locs ls G hl => ?_) 25 0 _ _ (by omega) (by omega) _ _ ls G (lv_sub hl [1, 0, 2] rfl)
  have hm : ∀ p, p < n → ∃ o, o < 4 ∧ mg_rs n mb (mg_nF ax ay mx my mc k) p = nI o := fun p hp => ⟨mg_nr ax ay mx my mc p (k - 1), by have := mg_nr_le ax ay mx my mc p (k - 1); omega, mg_rs_in hp⟩
  refine lv_aload_n hx hb dX0_round_49 rfl (lv_at hl 1 rfl) ?_
  refine iX_moveMiddles C G hn hk.2 hm ⟨Nat.le_of_ble_eq_true rfl, Nat.le_of_ble_eq_true rfl⟩ ⟨Nat.zero_le _, Nat.zero_le _⟩ hl.1 (Nat.le_of_ble_eq_true rfl) dX0_round_50 (fun u H locs hu G => ?_)
  refine lv_iload_n hx hb dX0_round_53 rfl (lv_at hl 0 rfl) ?_
  exact mg_iret C (u.1, u.2.1, u.2.2.1, u.2.2.2, up, lo) G ⟨rfl, mg_rd_iv I hn hk rfl hu⟩ dX0_round_54
theorem iX_round {a : Nat → Nat} {cI cZ : ClassId} {ax ay sx sy mx my mc mv mb qx qy qc : AR} {up lo : Int64} {n k : Nat} (C : mg_cx p s m args meth c cc ret nL RX0 A) (G : mg_wd D (mg_ty cI cZ) A s (wX a cI cZ (nI n) (nI k) ax ay sx sy mx my mc mv mb qx qy qc up lo) H locs) (hn : n ≤ 24) (hk : 1 ≤ k ∧ k ≤ 4) (I : mg_Iv n k ax ay mx my mc mb mv) (hR : 3 + 1 ≤ R.frames ∧ 8 + (4 + 11) + 88 ≤ R.locals) (hf : cells ≤ R.cells ∧ slots ≤ R.slots) (hsz : ls.size = nL) (hrm : (rest.map fun v => v.category).sum ≤ 8) (hdg : decode cc pc = .ok (.invokevirtual 68, 3))
    (go : ∀ (r : Int32) (u : AR × AR × AR × AR × Int64 × Int64) (H1 : Heap) (locs1 : List Loc), (r = nI (mg_rR ax ay k n (mb, mx, my, mc)) ∧ mg_Iv n k ax ay (mg_rS ax ay k n (mb, mx, my, mc)).2.1 (mg_rS ax ay k n (mb, mx, my, mc)).2.2.1 (mg_rS ax ay k n (mb, mx, my, mc)).2.2.2 (mg_rS ax ay k n (mb, mx, my, mc)).1 u.1) → mg_wd D (mg_ty cI cZ) A s (wX a cI cZ (nI n) (nI k) ax ay sx sy ((mg_rS ax ay k n (mb, mx, my, mc)).2.1) ((mg_rS ax ay k n (mb, mx, my, mc)).2.2.1) ((mg_rS ax ay k n (mb, mx, my, mc)).2.2.2) (u.1) ((mg_rS ax ay k n (mb, mx, my, mc)).1) (u.2.1) (u.2.2.1) (u.2.2.2.1) (u.2.2.2.2.1) (u.2.2.2.2.2)) H1 locs1 → W p l e R s m args below meth c H1 locs1 cells slots Q (F0 m (pc + 3) ls (.int r :: rest))) : W p l e R s m args below meth c H locs cells slots Q (F0 m pc ls (.ref (a 0) :: rest)) := by
  have hts := C.2.2.2.2.2.1
  exact mg_ci (mg_runV C G (kX_round l D a cI cZ ax ay sx sy mx my mc mv mb qx qy qc up lo H.size n k hn hk I) (cwV 0 hts (lw_V q124 q96 q97 q10 q98) rfl rfl rfl (by decide +kernel) hR) (ci := 0) rfl rfl rfl rfl hsz rfl hrm hdg hf) G.2.2.2 (mg_free C G) (fun r u H1 locs1 hp B => go r u H1 locs1 hp (mg_whole C G B))
set_option maxHeartbeats 4000000 in
set_option maxRecDepth 100000 in
/-- settle, its loop: f rounds are left -/
theorem lX_settle1 {a : Nat → Nat} {cI cZ : ClassId} {ax ay sx sy : AR} {n k : Nat} {T : Nat × mg_St} (C : mg_cx p s m args meth c cX0_settle ret 3 RX0 A) (hn : n ≤ 24) (hk : 1 ≤ k ∧ k ≤ 4)
    (goA : ∀ (mv qx qy qc : AR) (up lo : Int64) (H : Heap) (locs : List Loc) (ls : Array Slot), mg_Iv n k ax ay T.2.2.1 T.2.2.2.1 T.2.2.2.2 T.2.1 mv → mg_wd D (mg_ty cI cZ) A s (wX a cI cZ (nI n) (nI k) ax ay sx sy (T.2.2.1) (T.2.2.2.1) (T.2.2.2.2) mv (T.2.1) qx qy qc up lo) H locs → lv_has ls 3 [(1, .int (nI T.1))] → W p l e (mg_R 4 111) s m args below meth c H locs 0 0 Q (F0 m 21 ls []))
    (goB : ∀ (mv qx qy qc : AR) (up lo : Int64) (H : Heap) (locs : List Loc) (ls : Array Slot), T.1 = 40 → mg_Iv n k ax ay T.2.2.1 T.2.2.2.1 T.2.2.2.2 T.2.1 mv → mg_wd D (mg_ty cI cZ) A s (wX a cI cZ (nI n) (nI k) ax ay sx sy (T.2.2.1) (T.2.2.2.1) (T.2.2.2.2) mv (T.2.1) qx qy qc up lo) H locs → W p l e (mg_R 4 111) s m args below meth c H locs 0 0 Q (F0 m 29 ls [])) :
    ∀ (f i : Nat) (t : mg_St) (mv qx qy qc : AR) (up lo : Int64) , i + f = 40 → mg_st ax ay k n f i t = T → mg_Iv n k ax ay t.2.1 t.2.2.1 t.2.2.2 t.1 mv → ∀ (H : Heap) (locs : List Loc) (ls : Array Slot), mg_wd D (mg_ty cI cZ) A s (wX a cI cZ (nI n) (nI k) ax ay sx sy (t.2.1) (t.2.2.1) (t.2.2.2) mv (t.1) qx qy qc up lo) H locs → lv_has ls 3 [(1, .int (nI (i + 1))), (0, .ref (a 0))] → W p l e (mg_R 4 111) s m args below meth c H locs 0 0 Q (F0 m 6 ls []) := by
  obtain ⟨hx, hb, hr, hml, hown, hts, hlk, hA⟩ := id C
  intro f
  induction f with
  | zero =>
    intro i t mv qx qy qc up lo hi hT I H locs ls G hl
    refine lv_iload_n hx hb dX0_settle_6 rfl (lv_at hl 0 rfl) ?_
    refine lv_bipush (v := (nI 40)) hx hb dX0_settle_7 (by decide) ?_
    refine mg_igt (tgt := 29) hx hb (by omega) (by omega) dX0_settle_9 (by decide) (fun _ => ?_) (fun h => False.elim (by omega))
    subst hT
    exact goB mv qx qy qc up lo H locs ls (show i = 40 by omega) I G
  | succ f ih =>
    intro i t mv qx qy qc up lo hi hT I H locs ls G hl
    refine lv_iload_n hx hb dX0_settle_6 rfl (lv_at hl 0 rfl) ?_
    refine lv_bipush (v := (nI 40)) hx hb dX0_settle_7 (by decide) ?_
    refine mg_igt (tgt := 29) hx hb (by omega) (by omega) dX0_settle_9 (by decide) (fun h => False.elim (by omega)) (fun _ => ?_)
    refine lv_aload_n hx hb dX0_settle_12 rfl (lv_at hl 1 rfl) ?_
    refine iX_round C G hn hk I ⟨Nat.le_of_ble_eq_true rfl, Nat.le_of_ble_eq_true rfl⟩ ⟨Nat.zero_le _, Nat.zero_le _⟩ hl.1 (Nat.le_of_ble_eq_true rfl) dX0_settle_13 (fun r1 u H locs hr1 G => ?_)
    obtain ⟨hr1, I2⟩ := hr1
    subst hr1
    have hle : mg_rR ax ay k n t ≤ 24 := Nat.le_trans (mg_ch_le _ _ _ _ _ _ _ _) hn
    refine lv_istore_n (lv' := [(2, _), (1, _), (0, _)]) hx hb dX0_settle_16 rfl hl (by decide) rfl (fun ls hl => ?_)
    refine lv_iload_n hx hb dX0_settle_17 rfl (lv_at hl 0 rfl) ?_
    refine lv_if_ne (tgt := 23) hx hb dX0_settle_18 (by decide) (fun h1 => ?_) (fun h1 => ?_)
    · have h2 : mg_rR ax ay k n t ≠ 0 := fun q => h1 (by show nI (mg_rR ax ay k n t) = 0; rw [q]; rfl)
      refine lv_iinc (lv' := [(1, _), (2, _), (0, _)]) hx hb dX0_settle_23 hl (k := 1) rfl (mg_inc _) (by decide) rfl (fun ls hl => ?_)
      refine lv_goto (tgt := 6) hx hb dX0_settle_26 (by decide) ?_
      exact ih (i + 1) (mg_rS ax ay k n t) _ _ _ _ _ _ (by omega) (by rw [← hT]; exact (if_neg h2).symm) I2 H locs ls G (lv_sub hl [0, 2] rfl)
    · have h2 : mg_rR ax ay k n t = 0 := (nI_eq (b := 0) (by omega) (by decide)).mp h1
      have hT : (i + 1, mg_rS ax ay k n t) = T := by rw [← hT]; exact (if_pos h2).symm
      subst hT
      exact goA _ _ _ _ _ _ H locs ls I2 G (lv_sub hl [1] rfl)
set_option maxHeartbeats 4000000 in
set_option maxRecDepth 100000 in
/-- settle() -/
theorem kX_settle (l : Launch) (D : va_G) (a : Nat → Nat) (cI cZ : ClassId) (ax ay sx sy mx my mc mv mb qx qy qc : AR) (up lo : Int64) (sz : Nat) (n k : Nat) (hn : n ≤ 24) (hk : 1 ≤ k ∧ k ≤ 4) (hp : ∀ p, p < n → (-50 ≤ (ax p).toInt ∧ (ax p).toInt ≤ 50) ∧ (-50 ≤ (ay p).toInt ∧ (ay p).toInt ≤ 50)) (hs : ∀ g, g < 4 → (-50 ≤ (sx g).toInt ∧ (sx g).toInt ≤ 50) ∧ (-50 ≤ (sy g).toInt ∧ (sy g).toInt ≤ 50)) : Met l yX0_settle (ws_ yX0_settle cX0_settle 3 (some .int)) (mg_R 4 111) (va_Pc [.ref (a 0)] (mg_pre D (mg_ty cI cZ) (wX a cI cZ (nI n) (nI k) ax ay sx sy mx my mc mv mb qx qy qc up lo) sz)) (va_Qi (fun (r : Int32) (u : AR × AR × AR × AR × Int64 × Int64) => r = nI (mg_st ax ay k n 40 0 (mg_rs 24 mb mg_om, mg_rs 4 mx sx, mg_rs 4 my sy, mg_rs 4 mc mg_o1)).1 ∧ mg_Iv n k ax ay (mg_st ax ay k n 40 0 (mg_rs 24 mb mg_om, mg_rs 4 mx sx, mg_rs 4 my sy, mg_rs 4 mc mg_o1)).2.2.1 (mg_st ax ay k n 40 0 (mg_rs 24 mb mg_om, mg_rs 4 mx sx, mg_rs 4 my sy, mg_rs 4 mc mg_o1)).2.2.2.1 (mg_st ax ay k n 40 0 (mg_rs 24 mb mg_om, mg_rs 4 mx sx, mg_rs 4 my sy, mg_rs 4 mc mg_o1)).2.2.2.2 (mg_st ax ay k n 40 0 (mg_rs 24 mb mg_om, mg_rs 4 mx sx, mg_rs 4 my sy, mg_rs 4 mc mg_o1)).2.1 u.1) (mg_bk D (mg_ty cI cZ) (fun (u : AR × AR × AR × AR × Int64 × Int64) => wX a cI cZ (nI n) (nI k) ax ay sx sy ((mg_st ax ay k n 40 0 (mg_rs 24 mb mg_om, mg_rs 4 mx sx, mg_rs 4 my sy, mg_rs 4 mc mg_o1)).2.2.1) ((mg_st ax ay k n 40 0 (mg_rs 24 mb mg_om, mg_rs 4 mx sx, mg_rs 4 my sy, mg_rs 4 mc mg_o1)).2.2.2.1) ((mg_st ax ay k n 40 0 (mg_rs 24 mb mg_om, mg_rs 4 mx sx, mg_rs 4 my sy, mg_rs 4 mc mg_o1)).2.2.2.2) (u.1) ((mg_st ax ay k n 40 0 (mg_rs 24 mb mg_om, mg_rs 4 mx sx, mg_rs 4 my sy, mg_rs 4 mc mg_o1)).2.1) (u.2.1) (u.2.2.1) (u.2.2.2.1) (u.2.2.2.2.1) (u.2.2.2.2.2)) (va_A (wX a cI cZ (nI n) (nI k) ax ay sx sy mx my mc mv mb qx qy qc up lo) sz)) (va_A (wX a cI cZ (nI n) (nI k) ax ay sx sy mx my mc mv mb qx qy qc up lo) sz)) 0 0 (va_A (wX a cI cZ (nI n) (nI k) ax ay sx sy mx my mc mv mb qx qy qc up lo) sz) := by
  refine mg_meti (by decide) (Nat.le_of_ble_eq_true rfl) ?_
  intro p e s m below meth c A ls C hin G hl
  have C : mg_cx p s m _ meth c cX0_settle (some .int) 3 RX0 A := C
  obtain ⟨hx, hb, hr, hml, hown, hts, hlk, hA⟩ := id C
  have hl : lv_has ls 3 [(0, _)] := hl
  refine lv_aload_n hx hb dX0_settle_0 rfl (lv_at hl 0 rfl) ?_
  refine iX_reset C G  ⟨Nat.le_of_ble_eq_true rfl, Nat.le_of_ble_eq_true rfl⟩ ⟨Nat.zero_le _, Nat.zero_le _⟩ hl.1 (Nat.le_of_ble_eq_true rfl) dX0_settle_1 (fun H locs G => ?_)
  refine lv_iconst (v := (nI (0 + 1))) hx hb dX0_settle_4 rfl ?_
  refine lv_istore_n (lv' := [(1, _), (0, _)]) hx hb dX0_settle_5 rfl hl (by decide) rfl (fun ls hl => ?_)
  refine lX_settle1 (T := (mg_st ax ay k n 40 0 (mg_rs 24 mb mg_om, mg_rs 4 mx sx, mg_rs 4 my sy, mg_rs 4 mc mg_o1))) C hn hk (fun mv qx qy qc up lo H locs ls I G hl => ?_) (fun mv qx qy qc up lo H locs ls e40 I G => ?_) 40 0 (mg_rs 24 mb mg_om, mg_rs 4 mx sx, mg_rs 4 my sy, mg_rs 4 mc mg_o1) _ _ _ _ _ _ (by omega) rfl (mg_rs_iv hn hp hs) _ _ ls G (lv_sub hl [0, 1] rfl)
  · refine lv_iload_n hx hb dX0_settle_21 rfl (lv_at hl 0 rfl) ?_
    exact mg_iret C (mv, qx, qy, qc, up, lo) G ⟨rfl, I⟩ dX0_settle_22
  · refine lv_bipush (v := (nI 40)) hx hb dX0_settle_29 (by decide) ?_
    exact mg_iret C (mv, qx, qy, qc, up, lo) G ⟨by rw [e40], I⟩ dX0_settle_31
set_option maxHeartbeats 4000000 in
set_option maxRecDepth 100000 in
/-- near, a loop -/
theorem lX_near1 {a : Nat → Nat} {cI cZ : ClassId} {ax ay sx sy mx my mc mv mb qx qy qc : AR} {N k g : Nat} (C : mg_cx p s m args meth c cX0_near ret 4 RX0 A) (hN : N ≤ 24) (hk : 1 ≤ k ∧ k ≤ 4) (hg : g < k) (B : mg_Bd N ax ay mx my mc)
    (go : ∀ (up lo : Int64) (H : Heap) (locs : List Loc) (ls : Array Slot), mg_wd D (mg_ty cI cZ) A s (wX a cI cZ (nI N) (nI k) ax ay sx sy mx my mc mv mb qx qy qc up lo) H locs → lv_has ls 4 [(2, .int (nI (mg_nc ax ay mx my mc k g N)))] → W p l e (mg_R 2 53) s m args below meth c H locs 0 0 Q (F0 m 49 ls [])) :
    ∀ (n i : Nat) (up lo : Int64), i ≤ N → N < i + n → ∀ (H : Heap) (locs : List Loc) (ls : Array Slot), mg_wd D (mg_ty cI cZ) A s (wX a cI cZ (nI N) (nI k) ax ay sx sy mx my mc mv mb qx qy qc up lo) H locs → lv_has ls 4 [(2, .int (nI (mg_nc ax ay mx my mc k g i))), (3, .int (nI i)), (0, .ref (a 0)), (1, .int (nI g))] → W p l e (mg_R 2 53) s m args below meth c H locs 0 0 Q (F0 m 18 ls []) := by
  obtain ⟨hx, hb, hr, hml, hown, hts, hlk, hA⟩ := id C
  intro n
  induction n with
  | zero => intro i up lo h1 h2; exact absurd h2 (by omega)
  | succ n ih =>
    intro i up lo hi hin  H locs ls G hl
    refine lv_iload_n hx hb dX0_near_18 rfl (lv_at hl 1 rfl) ?_
    refine lv_aload_n hx hb dX0_near_19 rfl (lv_at hl 2 rfl) ?_
    refine gX_pt C G dX0_near_20 ?_
    refine mg_ige (tgt := 49) hx hb (by omega) (by omega) dX0_near_23 (by decide) (fun h => ?_) (fun h => ?_)
    · obtain rfl : i = N := by omega
      exact go _ _ H locs ls G (lv_sub hl [0] rfl)
    · refine lv_iload_n hx hb dX0_near_26 rfl (lv_at hl 0 rfl) ?_
      refine lv_aload_n hx hb dX0_near_27 rfl (lv_at hl 2 rfl) ?_
      refine lv_iload_n hx hb dX0_near_28 rfl (lv_at hl 1 rfl) ?_
      refine lv_iload_n hx hb dX0_near_29 rfl (lv_at hl 3 rfl) ?_
      refine iX_isNearest C G hk.2 (by omega) (by omega) ⟨Nat.le_of_ble_eq_true rfl, Nat.le_of_ble_eq_true rfl⟩ ⟨Nat.zero_le _, Nat.zero_le _⟩ hl.1 (Nat.le_of_ble_eq_true rfl) dX0_near_30 (fun r1 u H locs hr1 G => ?_)
      refine lv_if_eq (tgt := 40) hx hb dX0_near_33 (by decide) (fun h1 => ?_) (fun h1 => ?_)
      · have h2 := hr1.resolve_left (fun q => absurd (q.1.symm.trans h1) (by decide))
        refine lv_iconst (v := (nI 0)) hx hb dX0_near_40 (by decide) ?_
        refine mg_add hx hb dX0_near_41 ?_
        refine lv_istore_n (lv' := [(2, _), (3, _), (0, _), (1, _)]) hx hb dX0_near_42 rfl hl (by decide) rfl (fun ls hl => ?_)
        refine lv_iinc (lv' := [(3, _), (2, _), (0, _), (1, _)]) hx hb dX0_near_43 hl (k := 1) rfl (mg_inc _) (by decide) rfl (fun ls hl => ?_)
        refine lv_goto (tgt := 18) hx hb dX0_near_46 (by decide) ?_
        exact ih (i + 1) _ _ (by omega) (by omega) H locs ls G (by rw [show mg_nc ax ay mx my mc k g (i + 1) = _ from if_pos (Classical.byContradiction fun q => h2.2 ((mg_near_i B h hk hg).mpr q))]; exact lv_sub hl [1, 0, 2, 3] rfl)
      · have h2 := hr1.resolve_right (fun q => h1 q.1)
        refine lv_iconst (v := (nI 1)) hx hb dX0_near_36 (by decide) ?_
        refine lv_goto (tgt := 41) hx hb dX0_near_37 (by decide) ?_
        refine mg_add hx hb dX0_near_41 ?_
        refine lv_istore_n (lv' := [(2, _), (3, _), (0, _), (1, _)]) hx hb dX0_near_42 rfl hl (by decide) rfl (fun ls hl => ?_)
        refine lv_iinc (lv' := [(3, _), (2, _), (0, _), (1, _)]) hx hb dX0_near_43 hl (k := 1) rfl (mg_inc _) (by decide) rfl (fun ls hl => ?_)
        refine lv_goto (tgt := 18) hx hb dX0_near_46 (by decide) ?_
        exact ih (i + 1) _ _ (by omega) (by omega) H locs ls G (by rw [show mg_nc ax ay mx my mc k g (i + 1) = _ from if_neg ((mg_near_i B h hk hg).mp h2.2)]; exact lv_sub hl [1, 0, 2, 3] rfl)
set_option maxHeartbeats 4000000 in
set_option maxRecDepth 100000 in
/-- near(group) -/
theorem kX_near (l : Launch) (D : va_G) (a : Nat → Nat) (cI cZ : ClassId) (ax ay sx sy mx my mc mv mb qx qy qc : AR) (up lo : Int64) (sz : Nat) (n k : Nat) (v : Int32) (hn : n ≤ 24) (hk : 1 ≤ k ∧ k ≤ 4) (B : mg_Bd n ax ay mx my mc) : Met l yX0_near (ws_ yX0_near cX0_near 4 (some .int)) (mg_R 2 53) (va_Pc [.ref (a 0), .int v] (mg_pre D (mg_ty cI cZ) (wX a cI cZ (nI n) (nI k) ax ay sx sy mx my mc mv mb qx qy qc up lo) sz)) (va_Qi (fun (r : Int32) (u : Int64 × Int64) => r = if ¬ v < 0 ∧ v < nI k then nI (mg_nc ax ay mx my mc k v.toNatClampNeg n) else -1) (mg_bk D (mg_ty cI cZ) (fun (u : Int64 × Int64) => wX a cI cZ (nI n) (nI k) ax ay sx sy mx my mc mv mb qx qy qc (u.1) (u.2)) (va_A (wX a cI cZ (nI n) (nI k) ax ay sx sy mx my mc mv mb qx qy qc up lo) sz)) (va_A (wX a cI cZ (nI n) (nI k) ax ay sx sy mx my mc mv mb qx qy qc up lo) sz)) 0 0 (va_A (wX a cI cZ (nI n) (nI k) ax ay sx sy mx my mc mv mb qx qy qc up lo) sz) := by
  refine mg_meti (by decide) (Nat.le_of_ble_eq_true rfl) ?_
  intro p e s m below meth c A ls C hin G hl
  have C : mg_cx p s m _ meth c cX0_near (some .int) 4 RX0 A := C
  obtain ⟨hx, hb, hr, hml, hown, hts, hlk, hA⟩ := id C
  have hl : lv_has ls 4 [(0, _), (1, _)] := hl
  refine lv_iload_n hx hb dX0_near_0 rfl (lv_at hl 1 rfl) ?_
  refine lv_if_lt (tgt := 12) hx hb dX0_near_1 (by decide) (fun h1 => ?_) (fun h1 => ?_)
  · refine lv_iconst (v := (-1)) hx hb dX0_near_12 (by decide) ?_
    exact mg_iret C (up, lo) G (if_neg (fun q => q.1 h1)).symm dX0_near_13
  · refine lv_iload_n hx hb dX0_near_4 rfl (lv_at hl 1 rfl) ?_
    refine lv_aload_n hx hb dX0_near_5 rfl (lv_at hl 0 rfl) ?_
    refine gX_kk C G dX0_near_6 ?_
    refine lv_icmp_lt (tgt := 14) hx hb dX0_near_9 (by decide) (fun h2 => ?_) (fun h2 => ?_)
    · obtain ⟨j, hj, rfl⟩ := nI_of h1
      have hjn : j < k := (nI_ltI hj (by omega)).mp h2
      refine lv_iconst (v := (nI (mg_nc ax ay mx my mc k j 0))) hx hb dX0_near_14 rfl ?_
      refine lv_istore_n (lv' := [(2, _), (0, _), (1, _)]) hx hb dX0_near_15 rfl hl (by decide) rfl (fun ls hl => ?_)
      refine lv_iconst (v := (nI 0)) hx hb dX0_near_16 (by decide) ?_
      refine lv_istore_n (lv' := [(3, _), (2, _), (0, _), (1, _)]) hx hb dX0_near_17 rfl hl (by decide) rfl (fun ls hl => ?_)
      refine lX_near1 C hn hk hjn B (fun up lo H locs ls G hl => ?_) 25 0 _ _ (by omega) (by omega) _ _ ls G (lv_sub hl [1, 0, 2, 3] rfl)
      refine lv_iload_n hx hb dX0_near_49 rfl (lv_at hl 0 rfl) ?_
      exact mg_iret C (up, lo) G (by rw [if_pos ⟨h1, h2⟩, nI_clamp hj]) dX0_near_50
    · refine lv_iconst (v := (-1)) hx hb dX0_near_12 (by decide) ?_
      exact mg_iret C (up, lo) G (if_neg (fun q => h2 q.2)).symm dX0_near_13
end GX7
end
section
/-! the two constructors -/
abbrev mg_z : AR := fun _ => 0
def mg_ad (l : List Nat) : Nat → Nat := fun i => l.getD i 0
section GH
variable {p : Program} {l : Launch} {e : Env} {R : Room} {s : State} {m : MethodId} {args : Array Value} {below : List Frame} {meth : Method} {c : Code} {H : Heap} {locs : List Loc} {cells slots : Nat} {Q : State → Prop}
variable {cc : ByteArray} {ret : Option FieldType} {nL : Nat} {own : String} {A : Nat → Prop} {D : va_G} {pc : Nat} {ls : Array Slot} {rest : List Value}

theorem mg_newI {cI cZ : ClassId} {ws : va_W} (C : mg_cx p s m args meth c cc ret nL own A) (G : mg_wd D (mg_ty cI cZ) A s ws H locs) {v : Int32} {N : Nat} (hn : ¬ v < 0) (hN : v.toNatClampNeg = N) (hby : N * componentBytes .int ≤ 536870912) (hcells : cells + 1 ≤ R.cells) (hslots : slots + N ≤ R.slots) (hdg : decode cc pc = .ok (.newarray .int, 2))
    (go : ∀ (q : Nat) (H1 : Heap), mg_wd D (mg_ty cI cZ) A s (ws ++ [(q, .inl (cI, N, .inl mg_z))]) H1 locs → W p l e R s m args below meth c H1 locs (cells + 1) (slots + N) Q (F0 m (pc + 2) ls (.ref q :: rest))) : W p l e R s m args below meth c H locs cells slots Q (F0 m pc ls (.int v :: rest)) := by
  obtain ⟨hx, hb, hr, hml, hown, hts, hlk, hA⟩ := C
  obtain ⟨hK, hP, hD, hS⟩ := G
  refine va_newa (atype := .int) hx hb (hts _ q73) rfl hK hP hD hS hA (a0 := (N, .inl mg_z)) (fun cA => rfl) hn hN hby hcells hslots hdg (fun q cA H1 hK1 hP1 hD1 hS1 => ?_)
  have e : cA = cI := by
    have h1 := (hK1.2 2 (cA, .int) rfl).2
    have h2 := (hK.2 0 (cI, .int) rfl).2
    exact Option.some.inj (h1.symm.trans h2)
  rw [e] at hP1 hD1
  exact go q H1 ⟨hK, hP1, hD1, hS1⟩
theorem mg_newZ {cI cZ : ClassId} {ws : va_W} (C : mg_cx p s m args meth c cc ret nL own A) (G : mg_wd D (mg_ty cI cZ) A s ws H locs) {v : Int32} {N : Nat} (hn : ¬ v < 0) (hN : v.toNatClampNeg = N) (hby : N * componentBytes .boolean ≤ 536870912) (hcells : cells + 1 ≤ R.cells) (hslots : slots + N ≤ R.slots) (hdg : decode cc pc = .ok (.newarray .boolean, 2))
    (go : ∀ (q : Nat) (H1 : Heap), mg_wd D (mg_ty cI cZ) A s (ws ++ [(q, .inl (cZ, N, .inl mg_z))]) H1 locs → W p l e R s m args below meth c H1 locs (cells + 1) (slots + N) Q (F0 m (pc + 2) ls (.ref q :: rest))) : W p l e R s m args below meth c H locs cells slots Q (F0 m pc ls (.int v :: rest)) := by
  obtain ⟨hx, hb, hr, hml, hown, hts, hlk, hA⟩ := C
  obtain ⟨hK, hP, hD, hS⟩ := G
  refine va_newa (atype := .boolean) hx hb (hts _ q74) rfl hK hP hD hS hA (a0 := (N, .inl mg_z)) (fun cA => rfl) hn hN hby hcells hslots hdg (fun q cA H1 hK1 hP1 hD1 hS1 => ?_)
  have e : cA = cZ := by
    have h1 := (hK1.2 2 (cA, .boolean) rfl).2
    have h2 := (hK.2 1 (cZ, .boolean) rfl).2
    exact Option.some.inj (h1.symm.trans h2)
  rw [e] at hP1 hD1
  exact go q H1 ⟨hK, hP1, hD1, hS1⟩
set_option maxHeartbeats 4000000 in
set_option maxRecDepth 100000 in
/-- the constructor -/
theorem kX_init (l : Launch) (D : va_G) (cI cZ : ClassId) (h0 sz : Nat) : Met l yX0_init (ws_ yX0_init cX0_init 1 none) ({ frames := 1, cells := 12, slots := 108, locals := 21 } : Room) (va_Pc [.ref h0] (mg_pre D (mg_ty cI cZ) [(h0, .inr (0, [.int 0, .null, .null, .int 0, .null, .null, .null, .null, .null, .null, .null, .null, .null, .null, .long 0, .long 0]))] sz)) (va_Qv (fun (u : Nat → Nat) => u 0 = h0) (mg_bk D (mg_ty cI cZ) (fun (u : Nat → Nat) => wX u cI cZ (nI 0) (nI 2) mg_z mg_z mg_z mg_z (mg_rs 4 mg_z mg_z) (mg_rs 4 mg_z mg_z) (mg_rs 4 mg_z mg_o1) (mg_rs 4 mg_z mg_o1) (mg_rs 24 mg_z mg_om) mg_z mg_z mg_z (0) (0)) (va_A [(h0, .inr (0, [.int 0, .null, .null, .int 0, .null, .null, .null, .null, .null, .null, .null, .null, .null, .null, .long 0, .long 0]))] sz)) (va_A [(h0, .inr (0, [.int 0, .null, .null, .int 0, .null, .null, .null, .null, .null, .null, .null, .null, .null, .null, .long 0, .long 0]))] sz)) 12 108 (va_A [(h0, .inr (0, [.int 0, .null, .null, .int 0, .null, .null, .null, .null, .null, .null, .null, .null, .null, .null, .long 0, .long 0]))] sz) := by
  refine mg_metv (by decide) (Nat.le_of_ble_eq_true rfl) ?_
  intro p e s m below meth c A ls C hin G hl
  have C : mg_cx p s m _ meth c cX0_init none 1 RX0 A := C
  obtain ⟨hx, hb, hr, hml, hown, hts, hlk, hA⟩ := id C
  have hl : lv_has ls 1 [(0, _)] := hl
  refine lv_aload_n hx hb dX0_init_0 rfl (lv_at hl 0 rfl) ?_
  refine W.objInit hx hb hown (hts _ q17) (hts _ q18) (hts _ q19) rfl (by rw [hml]; exact hl.1) rfl dX0_init_1 (Nat.le_of_ble_eq_true rfl) (Nat.le_of_ble_eq_true rfl) ?_
  refine W.eq (g2 := F0 m 4 ls []) rfl ?_
  refine lv_aload_n hx hb dX0_init_4 rfl (lv_at hl 0 rfl) ?_
  refine lv_bipush (v := nI 24) hx hb dX0_init_5 (by decide) ?_
  refine mg_newI C G (by decide) (N := 24) (by decide) (by decide) (Nat.le_of_ble_eq_true rfl) (Nat.le_of_ble_eq_true rfl) dX0_init_7 (fun q1 H G => ?_)
  refine W.widen (k := 1) (n := 24) (by decide) (by decide) ?_
  obtain ⟨hK, hP, hD, hS⟩ := G
  refine va_putF (D := D) (ci := 0) (v := .ref q1) (ty := .array .int) (C := RX0) (T := TX0) (N := 16) hx hb hts in_X0 tyX0 tyX0_ok nmX0 hown hK hP hD hS 0 rfl rfl 1 (by decide) (hts _ q25) (fun _ h9 => h9) rfl hin rfl (by decide +kernel) rfl rfl (Nat.le_of_ble_eq_true rfl) dX0_init_9 (fun H locs hP hD hS => ?_)
  have G : mg_wd D (mg_ty cI cZ) A s [(h0, .inr (0, [.int 0, .ref q1, .null, .int 0, .null, .null, .null, .null, .null, .null, .null, .null, .null, .null, .long 0, .long 0])), (q1, .inl (cI, 24, .inl mg_z))] H locs := ⟨hK, hP, hD, hS⟩
  refine lv_aload_n hx hb dX0_init_12 rfl (lv_at hl 0 rfl) ?_
  refine lv_bipush (v := nI 24) hx hb dX0_init_13 (by decide) ?_
  refine mg_newI C G (by decide) (N := 24) (by decide) (by decide) (Nat.le_of_ble_eq_true rfl) (Nat.le_of_ble_eq_true rfl) dX0_init_15 (fun q2 H G => ?_)
  refine W.widen (k := 2) (n := 48) (by decide) (by decide) ?_
  obtain ⟨hK, hP, hD, hS⟩ := G
  refine va_putF (D := D) (ci := 0) (v := .ref q2) (ty := .array .int) (C := RX0) (T := TX0) (N := 16) hx hb hts in_X0 tyX0 tyX0_ok nmX0 hown hK hP hD hS 0 rfl rfl 2 (by decide) (hts _ q26) (fun _ h9 => h9) rfl hin rfl (by decide +kernel) rfl rfl (Nat.le_of_ble_eq_true rfl) dX0_init_17 (fun H locs hP hD hS => ?_)
  have G : mg_wd D (mg_ty cI cZ) A s [(h0, .inr (0, [.int 0, .ref q1, .ref q2, .int 0, .null, .null, .null, .null, .null, .null, .null, .null, .null, .null, .long 0, .long 0])), (q1, .inl (cI, 24, .inl mg_z)), (q2, .inl (cI, 24, .inl mg_z))] H locs := ⟨hK, hP, hD, hS⟩
  refine lv_aload_n hx hb dX0_init_20 rfl (lv_at hl 0 rfl) ?_
  refine lv_iconst (v := nI 4) hx hb dX0_init_21 (by decide) ?_
  refine mg_newI C G (by decide) (N := 4) (by decide) (by decide) (Nat.le_of_ble_eq_true rfl) (Nat.le_of_ble_eq_true rfl) dX0_init_22 (fun q3 H G => ?_)
  refine W.widen (k := 3) (n := 52) (by decide) (by decide) ?_
  obtain ⟨hK, hP, hD, hS⟩ := G
  refine va_putF (D := D) (ci := 0) (v := .ref q3) (ty := .array .int) (C := RX0) (T := TX0) (N := 16) hx hb hts in_X0 tyX0 tyX0_ok nmX0 hown hK hP hD hS 0 rfl rfl 4 (by decide) (hts _ q28) (fun _ h9 => h9) rfl hin rfl (by decide +kernel) rfl rfl (Nat.le_of_ble_eq_true rfl) dX0_init_24 (fun H locs hP hD hS => ?_)
  have G : mg_wd D (mg_ty cI cZ) A s [(h0, .inr (0, [.int 0, .ref q1, .ref q2, .int 0, .ref q3, .null, .null, .null, .null, .null, .null, .null, .null, .null, .long 0, .long 0])), (q1, .inl (cI, 24, .inl mg_z)), (q2, .inl (cI, 24, .inl mg_z)), (q3, .inl (cI, 4, .inl mg_z))] H locs := ⟨hK, hP, hD, hS⟩
  refine lv_aload_n hx hb dX0_init_27 rfl (lv_at hl 0 rfl) ?_
  refine lv_iconst (v := nI 4) hx hb dX0_init_28 (by decide) ?_
  refine mg_newI C G (by decide) (N := 4) (by decide) (by decide) (Nat.le_of_ble_eq_true rfl) (Nat.le_of_ble_eq_true rfl) dX0_init_29 (fun q4 H G => ?_)
  refine W.widen (k := 4) (n := 56) (by decide) (by decide) ?_
  obtain ⟨hK, hP, hD, hS⟩ := G
  refine va_putF (D := D) (ci := 0) (v := .ref q4) (ty := .array .int) (C := RX0) (T := TX0) (N := 16) hx hb hts in_X0 tyX0 tyX0_ok nmX0 hown hK hP hD hS 0 rfl rfl 5 (by decide) (hts _ q29) (fun _ h9 => h9) rfl hin rfl (by decide +kernel) rfl rfl (Nat.le_of_ble_eq_true rfl) dX0_init_31 (fun H locs hP hD hS => ?_)
  have G : mg_wd D (mg_ty cI cZ) A s [(h0, .inr (0, [.int 0, .ref q1, .ref q2, .int 0, .ref q3, .ref q4, .null, .null, .null, .null, .null, .null, .null, .null, .long 0, .long 0])), (q1, .inl (cI, 24, .inl mg_z)), (q2, .inl (cI, 24, .inl mg_z)), (q3, .inl (cI, 4, .inl mg_z)), (q4, .inl (cI, 4, .inl mg_z))] H locs := ⟨hK, hP, hD, hS⟩
  refine lv_aload_n hx hb dX0_init_34 rfl (lv_at hl 0 rfl) ?_
  refine lv_iconst (v := nI 4) hx hb dX0_init_35 (by decide) ?_
  refine mg_newI C G (by decide) (N := 4) (by decide) (by decide) (Nat.le_of_ble_eq_true rfl) (Nat.le_of_ble_eq_true rfl) dX0_init_36 (fun q5 H G => ?_)
  refine W.widen (k := 5) (n := 60) (by decide) (by decide) ?_
  obtain ⟨hK, hP, hD, hS⟩ := G
  refine va_putF (D := D) (ci := 0) (v := .ref q5) (ty := .array .int) (C := RX0) (T := TX0) (N := 16) hx hb hts in_X0 tyX0 tyX0_ok nmX0 hown hK hP hD hS 0 rfl rfl 6 (by decide) (hts _ q30) (fun _ h9 => h9) rfl hin rfl (by decide +kernel) rfl rfl (Nat.le_of_ble_eq_true rfl) dX0_init_38 (fun H locs hP hD hS => ?_)
  have G : mg_wd D (mg_ty cI cZ) A s [(h0, .inr (0, [.int 0, .ref q1, .ref q2, .int 0, .ref q3, .ref q4, .ref q5, .null, .null, .null, .null, .null, .null, .null, .long 0, .long 0])), (q1, .inl (cI, 24, .inl mg_z)), (q2, .inl (cI, 24, .inl mg_z)), (q3, .inl (cI, 4, .inl mg_z)), (q4, .inl (cI, 4, .inl mg_z)), (q5, .inl (cI, 4, .inl mg_z))] H locs := ⟨hK, hP, hD, hS⟩
  refine lv_aload_n hx hb dX0_init_41 rfl (lv_at hl 0 rfl) ?_
  refine lv_iconst (v := nI 4) hx hb dX0_init_42 (by decide) ?_
  refine mg_newI C G (by decide) (N := 4) (by decide) (by decide) (Nat.le_of_ble_eq_true rfl) (Nat.le_of_ble_eq_true rfl) dX0_init_43 (fun q6 H G => ?_)
  refine W.widen (k := 6) (n := 64) (by decide) (by decide) ?_
  obtain ⟨hK, hP, hD, hS⟩ := G
  refine va_putF (D := D) (ci := 0) (v := .ref q6) (ty := .array .int) (C := RX0) (T := TX0) (N := 16) hx hb hts in_X0 tyX0 tyX0_ok nmX0 hown hK hP hD hS 0 rfl rfl 7 (by decide) (hts _ q31) (fun _ h9 => h9) rfl hin rfl (by decide +kernel) rfl rfl (Nat.le_of_ble_eq_true rfl) dX0_init_45 (fun H locs hP hD hS => ?_)
  have G : mg_wd D (mg_ty cI cZ) A s [(h0, .inr (0, [.int 0, .ref q1, .ref q2, .int 0, .ref q3, .ref q4, .ref q5, .ref q6, .null, .null, .null, .null, .null, .null, .long 0, .long 0])), (q1, .inl (cI, 24, .inl mg_z)), (q2, .inl (cI, 24, .inl mg_z)), (q3, .inl (cI, 4, .inl mg_z)), (q4, .inl (cI, 4, .inl mg_z)), (q5, .inl (cI, 4, .inl mg_z)), (q6, .inl (cI, 4, .inl mg_z))] H locs := ⟨hK, hP, hD, hS⟩
  refine lv_aload_n hx hb dX0_init_48 rfl (lv_at hl 0 rfl) ?_
  refine lv_iconst (v := nI 4) hx hb dX0_init_49 (by decide) ?_
  refine mg_newI C G (by decide) (N := 4) (by decide) (by decide) (Nat.le_of_ble_eq_true rfl) (Nat.le_of_ble_eq_true rfl) dX0_init_50 (fun q7 H G => ?_)
  refine W.widen (k := 7) (n := 68) (by decide) (by decide) ?_
  obtain ⟨hK, hP, hD, hS⟩ := G
  refine va_putF (D := D) (ci := 0) (v := .ref q7) (ty := .array .int) (C := RX0) (T := TX0) (N := 16) hx hb hts in_X0 tyX0 tyX0_ok nmX0 hown hK hP hD hS 0 rfl rfl 8 (by decide) (hts _ q32) (fun _ h9 => h9) rfl hin rfl (by decide +kernel) rfl rfl (Nat.le_of_ble_eq_true rfl) dX0_init_52 (fun H locs hP hD hS => ?_)
  have G : mg_wd D (mg_ty cI cZ) A s [(h0, .inr (0, [.int 0, .ref q1, .ref q2, .int 0, .ref q3, .ref q4, .ref q5, .ref q6, .ref q7, .null, .null, .null, .null, .null, .long 0, .long 0])), (q1, .inl (cI, 24, .inl mg_z)), (q2, .inl (cI, 24, .inl mg_z)), (q3, .inl (cI, 4, .inl mg_z)), (q4, .inl (cI, 4, .inl mg_z)), (q5, .inl (cI, 4, .inl mg_z)), (q6, .inl (cI, 4, .inl mg_z)), (q7, .inl (cI, 4, .inl mg_z))] H locs := ⟨hK, hP, hD, hS⟩
  refine lv_aload_n hx hb dX0_init_55 rfl (lv_at hl 0 rfl) ?_
  refine lv_iconst (v := nI 4) hx hb dX0_init_56 (by decide) ?_
  refine mg_newZ C G (by decide) (N := 4) (by decide) (by decide) (Nat.le_of_ble_eq_true rfl) (Nat.le_of_ble_eq_true rfl) dX0_init_57 (fun q8 H G => ?_)
  refine W.widen (k := 8) (n := 72) (by decide) (by decide) ?_
  obtain ⟨hK, hP, hD, hS⟩ := G
  refine va_putF (D := D) (ci := 0) (v := .ref q8) (ty := .array .boolean) (C := RX0) (T := TX0) (N := 16) hx hb hts in_X0 tyX0 tyX0_ok nmX0 hown hK hP hD hS 0 rfl rfl 9 (by decide) (hts _ q33) (fun _ h9 => h9) rfl hin rfl (by decide +kernel) rfl rfl (Nat.le_of_ble_eq_true rfl) dX0_init_59 (fun H locs hP hD hS => ?_)
  have G : mg_wd D (mg_ty cI cZ) A s [(h0, .inr (0, [.int 0, .ref q1, .ref q2, .int 0, .ref q3, .ref q4, .ref q5, .ref q6, .ref q7, .ref q8, .null, .null, .null, .null, .long 0, .long 0])), (q1, .inl (cI, 24, .inl mg_z)), (q2, .inl (cI, 24, .inl mg_z)), (q3, .inl (cI, 4, .inl mg_z)), (q4, .inl (cI, 4, .inl mg_z)), (q5, .inl (cI, 4, .inl mg_z)), (q6, .inl (cI, 4, .inl mg_z)), (q7, .inl (cI, 4, .inl mg_z)), (q8, .inl (cZ, 4, .inl mg_z))] H locs := ⟨hK, hP, hD, hS⟩
  refine lv_aload_n hx hb dX0_init_62 rfl (lv_at hl 0 rfl) ?_
  refine lv_bipush (v := nI 24) hx hb dX0_init_63 (by decide) ?_
  refine mg_newI C G (by decide) (N := 24) (by decide) (by decide) (Nat.le_of_ble_eq_true rfl) (Nat.le_of_ble_eq_true rfl) dX0_init_65 (fun q9 H G => ?_)
  refine W.widen (k := 9) (n := 96) (by decide) (by decide) ?_
  obtain ⟨hK, hP, hD, hS⟩ := G
  refine va_putF (D := D) (ci := 0) (v := .ref q9) (ty := .array .int) (C := RX0) (T := TX0) (N := 16) hx hb hts in_X0 tyX0 tyX0_ok nmX0 hown hK hP hD hS 0 rfl rfl 10 (by decide) (hts _ q34) (fun _ h9 => h9) rfl hin rfl (by decide +kernel) rfl rfl (Nat.le_of_ble_eq_true rfl) dX0_init_67 (fun H locs hP hD hS => ?_)
  have G : mg_wd D (mg_ty cI cZ) A s [(h0, .inr (0, [.int 0, .ref q1, .ref q2, .int 0, .ref q3, .ref q4, .ref q5, .ref q6, .ref q7, .ref q8, .ref q9, .null, .null, .null, .long 0, .long 0])), (q1, .inl (cI, 24, .inl mg_z)), (q2, .inl (cI, 24, .inl mg_z)), (q3, .inl (cI, 4, .inl mg_z)), (q4, .inl (cI, 4, .inl mg_z)), (q5, .inl (cI, 4, .inl mg_z)), (q6, .inl (cI, 4, .inl mg_z)), (q7, .inl (cI, 4, .inl mg_z)), (q8, .inl (cZ, 4, .inl mg_z)), (q9, .inl (cI, 24, .inl mg_z))] H locs := ⟨hK, hP, hD, hS⟩
  refine lv_aload_n hx hb dX0_init_70 rfl (lv_at hl 0 rfl) ?_
  refine lv_iconst (v := nI 4) hx hb dX0_init_71 (by decide) ?_
  refine mg_newI C G (by decide) (N := 4) (by decide) (by decide) (Nat.le_of_ble_eq_true rfl) (Nat.le_of_ble_eq_true rfl) dX0_init_72 (fun q10 H G => ?_)
  refine W.widen (k := 10) (n := 100) (by decide) (by decide) ?_
  obtain ⟨hK, hP, hD, hS⟩ := G
  refine va_putF (D := D) (ci := 0) (v := .ref q10) (ty := .array .int) (C := RX0) (T := TX0) (N := 16) hx hb hts in_X0 tyX0 tyX0_ok nmX0 hown hK hP hD hS 0 rfl rfl 11 (by decide) (hts _ q35) (fun _ h9 => h9) rfl hin rfl (by decide +kernel) rfl rfl (Nat.le_of_ble_eq_true rfl) dX0_init_74 (fun H locs hP hD hS => ?_)
  have G : mg_wd D (mg_ty cI cZ) A s [(h0, .inr (0, [.int 0, .ref q1, .ref q2, .int 0, .ref q3, .ref q4, .ref q5, .ref q6, .ref q7, .ref q8, .ref q9, .ref q10, .null, .null, .long 0, .long 0])), (q1, .inl (cI, 24, .inl mg_z)), (q2, .inl (cI, 24, .inl mg_z)), (q3, .inl (cI, 4, .inl mg_z)), (q4, .inl (cI, 4, .inl mg_z)), (q5, .inl (cI, 4, .inl mg_z)), (q6, .inl (cI, 4, .inl mg_z)), (q7, .inl (cI, 4, .inl mg_z)), (q8, .inl (cZ, 4, .inl mg_z)), (q9, .inl (cI, 24, .inl mg_z)), (q10, .inl (cI, 4, .inl mg_z))] H locs := ⟨hK, hP, hD, hS⟩
  refine lv_aload_n hx hb dX0_init_77 rfl (lv_at hl 0 rfl) ?_
  refine lv_iconst (v := nI 4) hx hb dX0_init_78 (by decide) ?_
  refine mg_newI C G (by decide) (N := 4) (by decide) (by decide) (Nat.le_of_ble_eq_true rfl) (Nat.le_of_ble_eq_true rfl) dX0_init_79 (fun q11 H G => ?_)
  refine W.widen (k := 11) (n := 104) (by decide) (by decide) ?_
  obtain ⟨hK, hP, hD, hS⟩ := G
  refine va_putF (D := D) (ci := 0) (v := .ref q11) (ty := .array .int) (C := RX0) (T := TX0) (N := 16) hx hb hts in_X0 tyX0 tyX0_ok nmX0 hown hK hP hD hS 0 rfl rfl 12 (by decide) (hts _ q36) (fun _ h9 => h9) rfl hin rfl (by decide +kernel) rfl rfl (Nat.le_of_ble_eq_true rfl) dX0_init_81 (fun H locs hP hD hS => ?_)
  have G : mg_wd D (mg_ty cI cZ) A s [(h0, .inr (0, [.int 0, .ref q1, .ref q2, .int 0, .ref q3, .ref q4, .ref q5, .ref q6, .ref q7, .ref q8, .ref q9, .ref q10, .ref q11, .null, .long 0, .long 0])), (q1, .inl (cI, 24, .inl mg_z)), (q2, .inl (cI, 24, .inl mg_z)), (q3, .inl (cI, 4, .inl mg_z)), (q4, .inl (cI, 4, .inl mg_z)), (q5, .inl (cI, 4, .inl mg_z)), (q6, .inl (cI, 4, .inl mg_z)), (q7, .inl (cI, 4, .inl mg_z)), (q8, .inl (cZ, 4, .inl mg_z)), (q9, .inl (cI, 24, .inl mg_z)), (q10, .inl (cI, 4, .inl mg_z)), (q11, .inl (cI, 4, .inl mg_z))] H locs := ⟨hK, hP, hD, hS⟩
  refine lv_aload_n hx hb dX0_init_84 rfl (lv_at hl 0 rfl) ?_
  refine lv_iconst (v := nI 4) hx hb dX0_init_85 (by decide) ?_
  refine mg_newI C G (by decide) (N := 4) (by decide) (by decide) (Nat.le_of_ble_eq_true rfl) (Nat.le_of_ble_eq_true rfl) dX0_init_86 (fun q12 H G => ?_)
  refine W.widen (k := 12) (n := 108) (by decide) (by decide) ?_
  obtain ⟨hK, hP, hD, hS⟩ := G
  refine va_putF (D := D) (ci := 0) (v := .ref q12) (ty := .array .int) (C := RX0) (T := TX0) (N := 16) hx hb hts in_X0 tyX0 tyX0_ok nmX0 hown hK hP hD hS 0 rfl rfl 13 (by decide) (hts _ q37) (fun _ h9 => h9) rfl hin rfl (by decide +kernel) rfl rfl (Nat.le_of_ble_eq_true rfl) dX0_init_88 (fun H locs hP hD hS => ?_)
  have G : mg_wd D (mg_ty cI cZ) A s [(h0, .inr (0, [.int 0, .ref q1, .ref q2, .int 0, .ref q3, .ref q4, .ref q5, .ref q6, .ref q7, .ref q8, .ref q9, .ref q10, .ref q11, .ref q12, .long 0, .long 0])), (q1, .inl (cI, 24, .inl mg_z)), (q2, .inl (cI, 24, .inl mg_z)), (q3, .inl (cI, 4, .inl mg_z)), (q4, .inl (cI, 4, .inl mg_z)), (q5, .inl (cI, 4, .inl mg_z)), (q6, .inl (cI, 4, .inl mg_z)), (q7, .inl (cI, 4, .inl mg_z)), (q8, .inl (cZ, 4, .inl mg_z)), (q9, .inl (cI, 24, .inl mg_z)), (q10, .inl (cI, 4, .inl mg_z)), (q11, .inl (cI, 4, .inl mg_z)), (q12, .inl (cI, 4, .inl mg_z))] H locs := ⟨hK, hP, hD, hS⟩
  refine lv_aload_n hx hb dX0_init_91 rfl (lv_at hl 0 rfl) ?_
  refine lv_iconst (v := nI 2) hx hb dX0_init_92 (by decide) ?_
  obtain ⟨hK, hP, hD, hS⟩ := G
  refine va_put (D := D) (ci := 0) (v := .int (nI 2)) (ty := .int) (C := RX0) (T := TX0) (N := 16) hx hb hts in_X0 tyX0 tyX0_ok nmX0 hown hK hP hD hS 0 rfl rfl 3 (by decide) (hts _ q27) (fun _ h9 => h9) rfl (by decide +kernel) rfl rfl (Nat.le_of_ble_eq_true rfl) dX0_init_93 (fun H locs hP hD hS => ?_)
  have G : mg_wd D (mg_ty cI cZ) A s [(h0, .inr (0, [.int 0, .ref q1, .ref q2, .int (nI 2), .ref q3, .ref q4, .ref q5, .ref q6, .ref q7, .ref q8, .ref q9, .ref q10, .ref q11, .ref q12, .long 0, .long 0])), (q1, .inl (cI, 24, .inl mg_z)), (q2, .inl (cI, 24, .inl mg_z)), (q3, .inl (cI, 4, .inl mg_z)), (q4, .inl (cI, 4, .inl mg_z)), (q5, .inl (cI, 4, .inl mg_z)), (q6, .inl (cI, 4, .inl mg_z)), (q7, .inl (cI, 4, .inl mg_z)), (q8, .inl (cZ, 4, .inl mg_z)), (q9, .inl (cI, 24, .inl mg_z)), (q10, .inl (cI, 4, .inl mg_z)), (q11, .inl (cI, 4, .inl mg_z)), (q12, .inl (cI, 4, .inl mg_z))] H locs := ⟨hK, hP, hD, hS⟩
  refine lv_aload_n hx hb dX0_init_96 rfl (lv_at hl 0 rfl) ?_
  have G : mg_wd D (mg_ty cI cZ) A s (wX (mg_ad [h0, q1, q2, q3, q4, q5, q6, q7, q8, q9, q10, q11, q12]) cI cZ (nI 0) (nI 2) mg_z mg_z mg_z mg_z mg_z mg_z mg_z mg_z mg_z mg_z mg_z mg_z (0) (0)) H locs := G
  refine iX_reset (a := (mg_ad [h0, q1, q2, q3, q4, q5, q6, q7, q8, q9, q10, q11, q12])) C G ⟨Nat.le_of_ble_eq_true rfl, Nat.le_of_ble_eq_true rfl⟩ ⟨Nat.le_of_ble_eq_true rfl, Nat.le_of_ble_eq_true rfl⟩ hl.1 (Nat.le_of_ble_eq_true rfl) dX0_init_97 (fun H locs G => ?_)
  exact mg_vret C (mg_ad [h0, q1, q2, q3, q4, q5, q6, q7, q8, q9, q10, q11, q12]) G rfl dX0_init_100
set_option maxHeartbeats 4000000 in
set_option maxRecDepth 100000 in
/-- the constructor -/
theorem kM_init (l : Launch) (D : va_G) (cI cZ : ClassId) (h0 sz : Nat) : Met l yX1_init (ws_ yX1_init cX1_init 1 none) ({ frames := 1, cells := 8, slots := 92, locals := 21 } : Room) (va_Pc [.ref h0] (mg_pre D (mg_ty cI cZ) [(h0, .inr (1, [.int 0, .null, .null, .null, .int 0, .null, .null, .null, .null, .null]))] sz)) (va_Qv (fun (u : Nat → Nat) => u 0 = h0) (mg_bk D (mg_ty cI cZ) (fun (u : Nat → Nat) => wM u cI (nI 0) (nI 2) mg_z mg_z (mg_rs 24 mg_z mg_om) mg_z mg_z (mg_rs 4 mg_z mg_z) (mg_rs 4 mg_z mg_z) (mg_rs 4 mg_z mg_o1)) (va_A [(h0, .inr (1, [.int 0, .null, .null, .null, .int 0, .null, .null, .null, .null, .null]))] sz)) (va_A [(h0, .inr (1, [.int 0, .null, .null, .null, .int 0, .null, .null, .null, .null, .null]))] sz)) 8 92 (va_A [(h0, .inr (1, [.int 0, .null, .null, .null, .int 0, .null, .null, .null, .null, .null]))] sz) := by
  refine mg_metv (by decide) (Nat.le_of_ble_eq_true rfl) ?_
  intro p e s m below meth c A ls C hin G hl
  have C : mg_cx p s m _ meth c cX1_init none 1 RX1 A := C
  obtain ⟨hx, hb, hr, hml, hown, hts, hlk, hA⟩ := id C
  have hl : lv_has ls 1 [(0, _)] := hl
  refine lv_aload_n hx hb dX1_init_0 rfl (lv_at hl 0 rfl) ?_
  refine W.objInit hx hb hown (hts _ q150) (hts _ q18) (hts _ q19) rfl (by rw [hml]; exact hl.1) rfl dX1_init_1 (Nat.le_of_ble_eq_true rfl) (Nat.le_of_ble_eq_true rfl) ?_
  refine W.eq (g2 := F0 m 4 ls []) rfl ?_
  refine lv_aload_n hx hb dX1_init_4 rfl (lv_at hl 0 rfl) ?_
  refine lv_bipush (v := nI 24) hx hb dX1_init_5 (by decide) ?_
  refine mg_newI C G (by decide) (N := 24) (by decide) (by decide) (Nat.le_of_ble_eq_true rfl) (Nat.le_of_ble_eq_true rfl) dX1_init_7 (fun q1 H G => ?_)
  refine W.widen (k := 1) (n := 24) (by decide) (by decide) ?_
  obtain ⟨hK, hP, hD, hS⟩ := G
  refine va_putF (D := D) (ci := 1) (v := .ref q1) (ty := .array .int) (C := RX1) (T := TX1) (N := 10) hx hb hts in_X1 tyX1 tyX1_ok nmX1 hown hK hP hD hS 0 rfl rfl 1 (by decide) (hts _ q156) (fun _ h9 => h9) rfl hin rfl (by decide +kernel) rfl rfl (Nat.le_of_ble_eq_true rfl) dX1_init_9 (fun H locs hP hD hS => ?_)
  have G : mg_wd D (mg_ty cI cZ) A s [(h0, .inr (1, [.int 0, .ref q1, .null, .null, .int 0, .null, .null, .null, .null, .null])), (q1, .inl (cI, 24, .inl mg_z))] H locs := ⟨hK, hP, hD, hS⟩
  refine lv_aload_n hx hb dX1_init_12 rfl (lv_at hl 0 rfl) ?_
  refine lv_bipush (v := nI 24) hx hb dX1_init_13 (by decide) ?_
  refine mg_newI C G (by decide) (N := 24) (by decide) (by decide) (Nat.le_of_ble_eq_true rfl) (Nat.le_of_ble_eq_true rfl) dX1_init_15 (fun q2 H G => ?_)
  refine W.widen (k := 2) (n := 48) (by decide) (by decide) ?_
  obtain ⟨hK, hP, hD, hS⟩ := G
  refine va_putF (D := D) (ci := 1) (v := .ref q2) (ty := .array .int) (C := RX1) (T := TX1) (N := 10) hx hb hts in_X1 tyX1 tyX1_ok nmX1 hown hK hP hD hS 0 rfl rfl 2 (by decide) (hts _ q157) (fun _ h9 => h9) rfl hin rfl (by decide +kernel) rfl rfl (Nat.le_of_ble_eq_true rfl) dX1_init_17 (fun H locs hP hD hS => ?_)
  have G : mg_wd D (mg_ty cI cZ) A s [(h0, .inr (1, [.int 0, .ref q1, .ref q2, .null, .int 0, .null, .null, .null, .null, .null])), (q1, .inl (cI, 24, .inl mg_z)), (q2, .inl (cI, 24, .inl mg_z))] H locs := ⟨hK, hP, hD, hS⟩
  refine lv_aload_n hx hb dX1_init_20 rfl (lv_at hl 0 rfl) ?_
  refine lv_bipush (v := nI 24) hx hb dX1_init_21 (by decide) ?_
  refine mg_newI C G (by decide) (N := 24) (by decide) (by decide) (Nat.le_of_ble_eq_true rfl) (Nat.le_of_ble_eq_true rfl) dX1_init_23 (fun q3 H G => ?_)
  refine W.widen (k := 3) (n := 72) (by decide) (by decide) ?_
  obtain ⟨hK, hP, hD, hS⟩ := G
  refine va_putF (D := D) (ci := 1) (v := .ref q3) (ty := .array .int) (C := RX1) (T := TX1) (N := 10) hx hb hts in_X1 tyX1 tyX1_ok nmX1 hown hK hP hD hS 0 rfl rfl 3 (by decide) (hts _ q158) (fun _ h9 => h9) rfl hin rfl (by decide +kernel) rfl rfl (Nat.le_of_ble_eq_true rfl) dX1_init_25 (fun H locs hP hD hS => ?_)
  have G : mg_wd D (mg_ty cI cZ) A s [(h0, .inr (1, [.int 0, .ref q1, .ref q2, .ref q3, .int 0, .null, .null, .null, .null, .null])), (q1, .inl (cI, 24, .inl mg_z)), (q2, .inl (cI, 24, .inl mg_z)), (q3, .inl (cI, 24, .inl mg_z))] H locs := ⟨hK, hP, hD, hS⟩
  refine lv_aload_n hx hb dX1_init_28 rfl (lv_at hl 0 rfl) ?_
  refine lv_iconst (v := nI 2) hx hb dX1_init_29 (by decide) ?_
  obtain ⟨hK, hP, hD, hS⟩ := G
  refine va_put (D := D) (ci := 1) (v := .int (nI 2)) (ty := .int) (C := RX1) (T := TX1) (N := 10) hx hb hts in_X1 tyX1 tyX1_ok nmX1 hown hK hP hD hS 0 rfl rfl 4 (by decide) (hts _ q159) (fun _ h9 => h9) rfl (by decide +kernel) rfl rfl (Nat.le_of_ble_eq_true rfl) dX1_init_30 (fun H locs hP hD hS => ?_)
  have G : mg_wd D (mg_ty cI cZ) A s [(h0, .inr (1, [.int 0, .ref q1, .ref q2, .ref q3, .int (nI 2), .null, .null, .null, .null, .null])), (q1, .inl (cI, 24, .inl mg_z)), (q2, .inl (cI, 24, .inl mg_z)), (q3, .inl (cI, 24, .inl mg_z))] H locs := ⟨hK, hP, hD, hS⟩
  refine lv_aload_n hx hb dX1_init_33 rfl (lv_at hl 0 rfl) ?_
  refine lv_iconst (v := nI 4) hx hb dX1_init_34 (by decide) ?_
  refine mg_newI C G (by decide) (N := 4) (by decide) (by decide) (Nat.le_of_ble_eq_true rfl) (Nat.le_of_ble_eq_true rfl) dX1_init_35 (fun q4 H G => ?_)
  refine W.widen (k := 4) (n := 76) (by decide) (by decide) ?_
  obtain ⟨hK, hP, hD, hS⟩ := G
  refine va_putF (D := D) (ci := 1) (v := .ref q4) (ty := .array .int) (C := RX1) (T := TX1) (N := 10) hx hb hts in_X1 tyX1 tyX1_ok nmX1 hown hK hP hD hS 0 rfl rfl 5 (by decide) (hts _ q160) (fun _ h9 => h9) rfl hin rfl (by decide +kernel) rfl rfl (Nat.le_of_ble_eq_true rfl) dX1_init_37 (fun H locs hP hD hS => ?_)
  have G : mg_wd D (mg_ty cI cZ) A s [(h0, .inr (1, [.int 0, .ref q1, .ref q2, .ref q3, .int (nI 2), .ref q4, .null, .null, .null, .null])), (q1, .inl (cI, 24, .inl mg_z)), (q2, .inl (cI, 24, .inl mg_z)), (q3, .inl (cI, 24, .inl mg_z)), (q4, .inl (cI, 4, .inl mg_z))] H locs := ⟨hK, hP, hD, hS⟩
  refine lv_aload_n hx hb dX1_init_40 rfl (lv_at hl 0 rfl) ?_
  refine lv_iconst (v := nI 4) hx hb dX1_init_41 (by decide) ?_
  refine mg_newI C G (by decide) (N := 4) (by decide) (by decide) (Nat.le_of_ble_eq_true rfl) (Nat.le_of_ble_eq_true rfl) dX1_init_42 (fun q5 H G => ?_)
  refine W.widen (k := 5) (n := 80) (by decide) (by decide) ?_
  obtain ⟨hK, hP, hD, hS⟩ := G
  refine va_putF (D := D) (ci := 1) (v := .ref q5) (ty := .array .int) (C := RX1) (T := TX1) (N := 10) hx hb hts in_X1 tyX1 tyX1_ok nmX1 hown hK hP hD hS 0 rfl rfl 6 (by decide) (hts _ q161) (fun _ h9 => h9) rfl hin rfl (by decide +kernel) rfl rfl (Nat.le_of_ble_eq_true rfl) dX1_init_44 (fun H locs hP hD hS => ?_)
  have G : mg_wd D (mg_ty cI cZ) A s [(h0, .inr (1, [.int 0, .ref q1, .ref q2, .ref q3, .int (nI 2), .ref q4, .ref q5, .null, .null, .null])), (q1, .inl (cI, 24, .inl mg_z)), (q2, .inl (cI, 24, .inl mg_z)), (q3, .inl (cI, 24, .inl mg_z)), (q4, .inl (cI, 4, .inl mg_z)), (q5, .inl (cI, 4, .inl mg_z))] H locs := ⟨hK, hP, hD, hS⟩
  refine lv_aload_n hx hb dX1_init_47 rfl (lv_at hl 0 rfl) ?_
  refine lv_iconst (v := nI 4) hx hb dX1_init_48 (by decide) ?_
  refine mg_newI C G (by decide) (N := 4) (by decide) (by decide) (Nat.le_of_ble_eq_true rfl) (Nat.le_of_ble_eq_true rfl) dX1_init_49 (fun q6 H G => ?_)
  refine W.widen (k := 6) (n := 84) (by decide) (by decide) ?_
  obtain ⟨hK, hP, hD, hS⟩ := G
  refine va_putF (D := D) (ci := 1) (v := .ref q6) (ty := .array .int) (C := RX1) (T := TX1) (N := 10) hx hb hts in_X1 tyX1 tyX1_ok nmX1 hown hK hP hD hS 0 rfl rfl 7 (by decide) (hts _ q162) (fun _ h9 => h9) rfl hin rfl (by decide +kernel) rfl rfl (Nat.le_of_ble_eq_true rfl) dX1_init_51 (fun H locs hP hD hS => ?_)
  have G : mg_wd D (mg_ty cI cZ) A s [(h0, .inr (1, [.int 0, .ref q1, .ref q2, .ref q3, .int (nI 2), .ref q4, .ref q5, .ref q6, .null, .null])), (q1, .inl (cI, 24, .inl mg_z)), (q2, .inl (cI, 24, .inl mg_z)), (q3, .inl (cI, 24, .inl mg_z)), (q4, .inl (cI, 4, .inl mg_z)), (q5, .inl (cI, 4, .inl mg_z)), (q6, .inl (cI, 4, .inl mg_z))] H locs := ⟨hK, hP, hD, hS⟩
  refine lv_aload_n hx hb dX1_init_54 rfl (lv_at hl 0 rfl) ?_
  refine lv_iconst (v := nI 4) hx hb dX1_init_55 (by decide) ?_
  refine mg_newI C G (by decide) (N := 4) (by decide) (by decide) (Nat.le_of_ble_eq_true rfl) (Nat.le_of_ble_eq_true rfl) dX1_init_56 (fun q7 H G => ?_)
  refine W.widen (k := 7) (n := 88) (by decide) (by decide) ?_
  obtain ⟨hK, hP, hD, hS⟩ := G
  refine va_putF (D := D) (ci := 1) (v := .ref q7) (ty := .array .int) (C := RX1) (T := TX1) (N := 10) hx hb hts in_X1 tyX1 tyX1_ok nmX1 hown hK hP hD hS 0 rfl rfl 8 (by decide) (hts _ q163) (fun _ h9 => h9) rfl hin rfl (by decide +kernel) rfl rfl (Nat.le_of_ble_eq_true rfl) dX1_init_58 (fun H locs hP hD hS => ?_)
  have G : mg_wd D (mg_ty cI cZ) A s [(h0, .inr (1, [.int 0, .ref q1, .ref q2, .ref q3, .int (nI 2), .ref q4, .ref q5, .ref q6, .ref q7, .null])), (q1, .inl (cI, 24, .inl mg_z)), (q2, .inl (cI, 24, .inl mg_z)), (q3, .inl (cI, 24, .inl mg_z)), (q4, .inl (cI, 4, .inl mg_z)), (q5, .inl (cI, 4, .inl mg_z)), (q6, .inl (cI, 4, .inl mg_z)), (q7, .inl (cI, 4, .inl mg_z))] H locs := ⟨hK, hP, hD, hS⟩
  refine lv_aload_n hx hb dX1_init_61 rfl (lv_at hl 0 rfl) ?_
  refine lv_iconst (v := nI 4) hx hb dX1_init_62 (by decide) ?_
  refine mg_newI C G (by decide) (N := 4) (by decide) (by decide) (Nat.le_of_ble_eq_true rfl) (Nat.le_of_ble_eq_true rfl) dX1_init_63 (fun q8 H G => ?_)
  refine W.widen (k := 8) (n := 92) (by decide) (by decide) ?_
  obtain ⟨hK, hP, hD, hS⟩ := G
  refine va_putF (D := D) (ci := 1) (v := .ref q8) (ty := .array .int) (C := RX1) (T := TX1) (N := 10) hx hb hts in_X1 tyX1 tyX1_ok nmX1 hown hK hP hD hS 0 rfl rfl 9 (by decide) (hts _ q164) (fun _ h9 => h9) rfl hin rfl (by decide +kernel) rfl rfl (Nat.le_of_ble_eq_true rfl) dX1_init_65 (fun H locs hP hD hS => ?_)
  have G : mg_wd D (mg_ty cI cZ) A s [(h0, .inr (1, [.int 0, .ref q1, .ref q2, .ref q3, .int (nI 2), .ref q4, .ref q5, .ref q6, .ref q7, .ref q8])), (q1, .inl (cI, 24, .inl mg_z)), (q2, .inl (cI, 24, .inl mg_z)), (q3, .inl (cI, 24, .inl mg_z)), (q4, .inl (cI, 4, .inl mg_z)), (q5, .inl (cI, 4, .inl mg_z)), (q6, .inl (cI, 4, .inl mg_z)), (q7, .inl (cI, 4, .inl mg_z)), (q8, .inl (cI, 4, .inl mg_z))] H locs := ⟨hK, hP, hD, hS⟩
  refine lv_aload_n hx hb dX1_init_68 rfl (lv_at hl 0 rfl) ?_
  have G : mg_wd D (mg_ty cI cZ) A s (wM (mg_ad [h0, q1, q2, q3, q4, q5, q6, q7, q8]) cI (nI 0) (nI 2) mg_z mg_z mg_z mg_z mg_z mg_z mg_z mg_z) H locs := G
  refine iM_reset (b := (mg_ad [h0, q1, q2, q3, q4, q5, q6, q7, q8])) C G ⟨Nat.le_of_ble_eq_true rfl, Nat.le_of_ble_eq_true rfl⟩ ⟨Nat.le_of_ble_eq_true rfl, Nat.le_of_ble_eq_true rfl⟩ hl.1 (Nat.le_of_ble_eq_true rfl) dX1_init_69 (fun H locs G => ?_)
  exact mg_vret C (mg_ad [h0, q1, q2, q3, q4, q5, q6, q7, q8]) G rfl dX1_init_72
end GH
end
section
/-! THE CLAIM OUT OF ONE WALK OF THE LAW'S BODY. Your part is whole_start (and what it stands on); all else here is the same for every law, but numbers. -/
def R_law : String := "MeanGroupsLaw"
def lw_P (b : Addr) (xs : List Int32) (args : Array Value) (s : State) : Prop := args = #[.ref b] ∧ s.IntsAt b xs ∧ xs.length ≤ 256 ∧ (Jvm.Cond.and given_1 narrow_1).before args s = true
def lw_Q (_ : Array Value) (s : State) (o : Outcome) (t : State) : Prop := o = .returned (some (.int 1)) ∧ Framed s o t [] 600000 7290000
def lw_Z (below : List Frame) (a : Array Value) (s : State) : State → Prop := fun t => ∃ o, t.status = .running ∧ Ended t below o ∧ lw_Q a s o t
/-- the law's own end, with 1 on the stack, nothing written that was there before, its room as the claim has it -/
theorem lw_ret {p : Program} {l : Launch} {e : Env} {s : State} {m : MethodId} {below : List Frame} {meth : Method} {c : Code} {b : Nat} (hx : p.tables.exec = Jvm.exec) (hb : c.code = code) (hr : meth.sig.returnType = ret) (hlocks : meth.locks = false) {pc : Nat} {H : Heap} {ls : Array Slot} (hdg : decode code pc = .ok (.ireturn, 1)) : W p l e room_1 s m #[Value.ref b] below meth c H [] 600000 7290000 (lw_Z below #[Value.ref b] s) (F0 m pc ls [.int 1]) := by
  intro T hT X
  obtain ⟨fs, hret, hrun, hended, hW, hframe⟩ := X.leave (v := some (.int 1)) (hlocks := hlocks) (fun h => by rw [hr] at h; cases h)
  have hmeth' : T.vm.method? m = some meth := X.method'
  refine ⟨T.setFrames fs, ?_, .returned (some (.int 1)), hrun, hended, rfl, ⟨_, rfl⟩, hW, hframe⟩
  jvm_step X.here [X.here.top, hx, hb, hdg, hmeth', hr, ret, narrow_b1]
  (try refine ⟨rfl, ?_⟩); (try refine ⟨rfl, ?_⟩)
  first | (intro acts; rw [hret _ acts rfl rfl rfl]) | rw [hret _ _ rfl rfl rfl]
  exact Steps.refl _
/-- what holds at the law's entry: the machine, the code, the tables' words (any of lw_tbl by 'hts w (by decide +kernel)'), the script of L ints xs at the cell b, what the Statement gives of the start (any of its parts by flat_of_before) -/
def lw_At (p : Program) (s : State) (m : MethodId) (meth : Method) (c : Code) (b L : Nat) (xs : Nat → Int32) : Prop :=
  p.tables.exec = Jvm.exec ∧ c.code = code ∧ meth.sig.returnType = ret ∧ c.maxLocals = 4 ∧ s.vm.findClass R_law = some m.cls ∧ (∀ w ∈ lw_tbl, w.before #[Value.ref b] s = true) ∧ va_X b L xs s s.heap ∧ b < s.heap.size ∧ meth.locks = false ∧ (Jvm.Cond.and given_1 narrow_1).before #[Value.ref b] s = true
section GL
variable {p : Program} {l : Launch} {e : Env} {R : Room} {s : State} {m : MethodId} {args : Array Value} {below : List Frame} {meth : Method} {c : Code} {H : Heap} {locs : List Loc} {cells slots : Nat} {Q : State → Prop}
variable {cc : ByteArray} {ret : Option FieldType} {nL : Nat} {own : String} {A : Nat → Prop} {D : va_G} {pc : Nat} {ls : Array Slot} {rest : List Value}

theorem jX_add {a : Nat → Nat} {cI cZ : ClassId} {kk : Int32} {ax ay sx sy mx my mc mv mb qx qy qc : AR} {up lo : Int64} {ww : va_W} {n : Nat} {v w : Int32} (C : mg_cx p s m args meth c cc ret nL R_law A) (G : mg_wd D (mg_ty cI cZ) A s ((wX a cI cZ (nI n) kk ax ay sx sy mx my mc mv mb qx qy qc up lo) ++ ww) H locs) (hn : n ≤ 24) (hR : 1 + 1 ≤ R.frames ∧ 8 + (3 + 11) + 21 ≤ R.locals) (hf : cells ≤ R.cells ∧ slots ≤ R.slots) (hsz : ls.size = nL) (hrm : (rest.map fun v => v.category).sum ≤ 8) (hdg : decode cc pc = .ok (.invokevirtual 13, 3))
    (go : ∀ (r : Int32) (u : Bool) (H1 : Heap) (locs1 : List Loc), ((u = true ∧ (mg_in v ∧ mg_in w ∧ n < 24) ∧ r = nI (n + 1)) ∨ (u = false ∧ ¬ (mg_in v ∧ mg_in w ∧ n < 24) ∧ r = -1)) → mg_wd D (mg_ty cI cZ) A s ((cond u (wX a cI cZ (nI (n + 1)) kk (upd ax n v) (upd ay n w) sx sy (mg_rs 4 mx sx) (mg_rs 4 my sy) (mg_rs 4 mc mg_o1) (mg_rs 4 mv mg_o1) (mg_rs 24 mb mg_om) qx qy qc up lo) (wX a cI cZ (nI n) kk ax ay sx sy mx my mc mv mb qx qy qc up lo)) ++ ww) H1 locs1 → W p l e R s m args below meth c H1 locs1 cells slots Q (F0 m (pc + 3) ls (.int r :: rest))) : W p l e R s m args below meth c H locs cells slots Q (F0 m pc ls (.int w :: .int v :: .ref (a 0) :: rest)) := by
  have hts := C.2.2.2.2.2.1
  exact mg_ci (mg_runV C (mg_cut1 G) (kX_add l D a cI cZ kk ax ay sx sy mx my mc mv mb qx qy qc up lo H.size n v w hn) (cwV 2 hts (lw_V q75 q76 q77 q10 q78) rfl rfl rfl (by decide +kernel) hR) (ci := 0) rfl rfl rfl rfl hsz rfl hrm hdg hf) G.2.2.2 (mg_free C (mg_cut1 G)) (fun r u H1 locs1 hp B => go r u H1 locs1 hp (mg_left C G B))
theorem jX_drop {a : Nat → Nat} {cI cZ : ClassId} {kk : Int32} {ax ay sx sy mx my mc mv mb qx qy qc : AR} {up lo : Int64} {ww : va_W} {n : Nat} {v : Int32} (C : mg_cx p s m args meth c cc ret nL R_law A) (G : mg_wd D (mg_ty cI cZ) A s ((wX a cI cZ (nI n) kk ax ay sx sy mx my mc mv mb qx qy qc up lo) ++ ww) H locs) (hn : n ≤ 24) (hR : 1 + 1 ≤ R.frames ∧ 8 + (3 + 11) + 21 ≤ R.locals) (hf : cells ≤ R.cells ∧ slots ≤ R.slots) (hsz : ls.size = nL) (hrm : (rest.map fun v => v.category).sum ≤ 8) (hdg : decode cc pc = .ok (.invokevirtual 18, 3))
    (go : ∀ (r : Int32) (u : Bool) (H1 : Heap) (locs1 : List Loc), ((u = true ∧ (¬ v < 0 ∧ v < nI n) ∧ r = nI (n - 1)) ∨ (u = false ∧ ¬ (¬ v < 0 ∧ v < nI n) ∧ r = -1)) → mg_wd D (mg_ty cI cZ) A s ((cond u (wX a cI cZ (nI (n - 1)) kk (mg_sh v.toNatClampNeg (n - 1) ax) (mg_sh v.toNatClampNeg (n - 1) ay) sx sy (mg_rs 4 mx sx) (mg_rs 4 my sy) (mg_rs 4 mc mg_o1) (mg_rs 4 mv mg_o1) (mg_rs 24 mb mg_om) qx qy qc up lo) (wX a cI cZ (nI n) kk ax ay sx sy mx my mc mv mb qx qy qc up lo)) ++ ww) H1 locs1 → W p l e R s m args below meth c H1 locs1 cells slots Q (F0 m (pc + 3) ls (.int r :: rest))) : W p l e R s m args below meth c H locs cells slots Q (F0 m pc ls (.int v :: .ref (a 0) :: rest)) := by
  have hts := C.2.2.2.2.2.1
  exact mg_ci (mg_runV C (mg_cut1 G) (kX_drop l D a cI cZ kk ax ay sx sy mx my mc mv mb qx qy qc up lo H.size n v hn) (cwV 1 hts (lw_V q82 q83 q84 q10 q85) rfl rfl rfl (by decide +kernel) hR) (ci := 0) rfl rfl rfl rfl hsz rfl hrm hdg hf) G.2.2.2 (mg_free C (mg_cut1 G)) (fun r u H1 locs1 hp B => go r u H1 locs1 hp (mg_left C G B))
theorem jX_seed {a : Nat → Nat} {cI cZ : ClassId} {pt kk : Int32} {ax ay sx sy mx my mc mv mb qx qy qc : AR} {up lo : Int64} {ww : va_W} {v x1 y1 : Int32} (C : mg_cx p s m args meth c cc ret nL R_law A) (G : mg_wd D (mg_ty cI cZ) A s ((wX a cI cZ pt kk ax ay sx sy mx my mc mv mb qx qy qc up lo) ++ ww) H locs)  (hR : 1 + 1 ≤ R.frames ∧ 8 + (4 + 11) + 21 ≤ R.locals) (hf : cells ≤ R.cells ∧ slots ≤ R.slots) (hsz : ls.size = nL) (hrm : (rest.map fun v => v.category).sum ≤ 8) (hdg : decode cc pc = .ok (.invokevirtual 23, 3))
    (go : ∀ (r : Int32) (u : Bool) (H1 : Heap) (locs1 : List Loc), ((u = true ∧ ((¬ v < 0 ∧ ¬ 3 < v) ∧ mg_in x1 ∧ mg_in y1) ∧ r = 0) ∨ (u = false ∧ ¬ ((¬ v < 0 ∧ ¬ 3 < v) ∧ mg_in x1 ∧ mg_in y1) ∧ r = -1)) → mg_wd D (mg_ty cI cZ) A s ((cond u (wX a cI cZ pt kk ax ay (upd sx v.toNatClampNeg x1) (upd sy v.toNatClampNeg y1) (mg_rs 4 mx (upd sx v.toNatClampNeg x1)) (mg_rs 4 my (upd sy v.toNatClampNeg y1)) (mg_rs 4 mc mg_o1) (mg_rs 4 mv mg_o1) (mg_rs 24 mb mg_om) qx qy qc up lo) (wX a cI cZ pt kk ax ay sx sy mx my mc mv mb qx qy qc up lo)) ++ ww) H1 locs1 → W p l e R s m args below meth c H1 locs1 cells slots Q (F0 m (pc + 3) ls (.int r :: rest))) : W p l e R s m args below meth c H locs cells slots Q (F0 m pc ls (.int y1 :: .int x1 :: .int v :: .ref (a 0) :: rest)) := by
  have hts := C.2.2.2.2.2.1
  exact mg_ci (mg_runV C (mg_cut1 G) (kX_seed l D a cI cZ pt kk ax ay sx sy mx my mc mv mb qx qy qc up lo H.size v x1 y1 ) (cwV 3 hts (lw_V q86 q87 q88 q10 q89) rfl rfl rfl (by decide +kernel) hR) (ci := 0) rfl rfl rfl rfl hsz rfl hrm hdg hf) G.2.2.2 (mg_free C (mg_cut1 G)) (fun r u H1 locs1 hp B => go r u H1 locs1 hp (mg_left C G B))
theorem jX_groups {a : Nat → Nat} {cI cZ : ClassId} {pt kk : Int32} {ax ay sx sy mx my mc mv mb qx qy qc : AR} {up lo : Int64} {ww : va_W} {v : Int32} (C : mg_cx p s m args meth c cc ret nL R_law A) (G : mg_wd D (mg_ty cI cZ) A s ((wX a cI cZ pt kk ax ay sx sy mx my mc mv mb qx qy qc up lo) ++ ww) H locs)  (hR : 1 + 1 ≤ R.frames ∧ 8 + (2 + 11) + 21 ≤ R.locals) (hf : cells ≤ R.cells ∧ slots ≤ R.slots) (hsz : ls.size = nL) (hrm : (rest.map fun v => v.category).sum ≤ 8) (hdg : decode cc pc = .ok (.invokevirtual 28, 3))
    (go : ∀ (H1 : Heap) (locs1 : List Loc), mg_wd D (mg_ty cI cZ) A s ((wX a cI cZ pt (mg_kf v) ax ay sx sy (mg_rs 4 mx sx) (mg_rs 4 my sy) (mg_rs 4 mc mg_o1) (mg_rs 4 mv mg_o1) (mg_rs 24 mb mg_om) qx qy qc up lo) ++ ww) H1 locs1 → W p l e R s m args below meth c H1 locs1 cells slots Q (F0 m (pc + 3) ls (rest))) : W p l e R s m args below meth c H locs cells slots Q (F0 m pc ls (.int v :: .ref (a 0) :: rest)) := by
  have hts := C.2.2.2.2.2.1
  exact mg_cv (mg_runV C (mg_cut1 G) (kX_groups l D a cI cZ pt kk ax ay sx sy mx my mc mv mb qx qy qc up lo H.size v ) (cwV 1 hts (lw_V q90 q91 q92 q10 q93) rfl rfl rfl (by decide +kernel) hR) (ci := 0) rfl rfl rfl rfl hsz rfl hrm hdg hf) G.2.2.2 (mg_free C (mg_cut1 G)) (fun u H1 locs1 hp B => go H1 locs1 (mg_left C G B))
theorem jX_reset {a : Nat → Nat} {cI cZ : ClassId} {pt kk : Int32} {ax ay sx sy mx my mc mv mb qx qy qc : AR} {up lo : Int64} {ww : va_W}  (C : mg_cx p s m args meth c cc ret nL R_law A) (G : mg_wd D (mg_ty cI cZ) A s ((wX a cI cZ pt kk ax ay sx sy mx my mc mv mb qx qy qc up lo) ++ ww) H locs)  (hR : 0 + 1 ≤ R.frames ∧ 8 + (2 + 11) + 0 ≤ R.locals) (hf : cells ≤ R.cells ∧ slots ≤ R.slots) (hsz : ls.size = nL) (hrm : (rest.map fun v => v.category).sum ≤ 8) (hdg : decode cc pc = .ok (.invokevirtual 33, 3))
    (go : ∀ (H1 : Heap) (locs1 : List Loc), mg_wd D (mg_ty cI cZ) A s ((wX a cI cZ pt kk ax ay sx sy (mg_rs 4 mx sx) (mg_rs 4 my sy) (mg_rs 4 mc mg_o1) (mg_rs 4 mv mg_o1) (mg_rs 24 mb mg_om) qx qy qc up lo) ++ ww) H1 locs1 → W p l e R s m args below meth c H1 locs1 cells slots Q (F0 m (pc + 3) ls (rest))) : W p l e R s m args below meth c H locs cells slots Q (F0 m pc ls (.ref (a 0) :: rest)) := by
  have hts := C.2.2.2.2.2.1
  exact mg_cv (mg_runV C (mg_cut1 G) (kX_reset l D a cI cZ pt kk ax ay sx sy mx my mc mv mb qx qy qc up lo H.size  ) (cwV 0 hts (lw_V q94 q21 q22 q10 q23) rfl rfl rfl (by decide +kernel) hR) (ci := 0) rfl rfl rfl rfl hsz rfl hrm hdg hf) G.2.2.2 (mg_free C (mg_cut1 G)) (fun u H1 locs1 hp B => go H1 locs1 (mg_left C G B))
theorem jX_round {a : Nat → Nat} {cI cZ : ClassId} {ax ay sx sy mx my mc mv mb qx qy qc : AR} {up lo : Int64} {ww : va_W} {n k : Nat} (C : mg_cx p s m args meth c cc ret nL R_law A) (G : mg_wd D (mg_ty cI cZ) A s ((wX a cI cZ (nI n) (nI k) ax ay sx sy mx my mc mv mb qx qy qc up lo) ++ ww) H locs) (hn : n ≤ 24) (hk : 1 ≤ k ∧ k ≤ 4) (I : mg_Iv n k ax ay mx my mc mb mv) (hR : 3 + 1 ≤ R.frames ∧ 8 + (4 + 11) + 88 ≤ R.locals) (hf : cells ≤ R.cells ∧ slots ≤ R.slots) (hsz : ls.size = nL) (hrm : (rest.map fun v => v.category).sum ≤ 8) (hdg : decode cc pc = .ok (.invokevirtual 37, 3))
    (go : ∀ (r : Int32) (u : AR × AR × AR × AR × Int64 × Int64) (H1 : Heap) (locs1 : List Loc), (r = nI (mg_rR ax ay k n (mb, mx, my, mc)) ∧ mg_Iv n k ax ay (mg_rS ax ay k n (mb, mx, my, mc)).2.1 (mg_rS ax ay k n (mb, mx, my, mc)).2.2.1 (mg_rS ax ay k n (mb, mx, my, mc)).2.2.2 (mg_rS ax ay k n (mb, mx, my, mc)).1 u.1) → mg_wd D (mg_ty cI cZ) A s ((wX a cI cZ (nI n) (nI k) ax ay sx sy ((mg_rS ax ay k n (mb, mx, my, mc)).2.1) ((mg_rS ax ay k n (mb, mx, my, mc)).2.2.1) ((mg_rS ax ay k n (mb, mx, my, mc)).2.2.2) (u.1) ((mg_rS ax ay k n (mb, mx, my, mc)).1) (u.2.1) (u.2.2.1) (u.2.2.2.1) (u.2.2.2.2.1) (u.2.2.2.2.2)) ++ ww) H1 locs1 → W p l e R s m args below meth c H1 locs1 cells slots Q (F0 m (pc + 3) ls (.int r :: rest))) : W p l e R s m args below meth c H locs cells slots Q (F0 m pc ls (.ref (a 0) :: rest)) := by
  have hts := C.2.2.2.2.2.1
  exact mg_ci (mg_runV C (mg_cut1 G) (kX_round l D a cI cZ ax ay sx sy mx my mc mv mb qx qy qc up lo H.size n k hn hk I) (cwV 0 hts (lw_V q95 q96 q97 q10 q98) rfl rfl rfl (by decide +kernel) hR) (ci := 0) rfl rfl rfl rfl hsz rfl hrm hdg hf) G.2.2.2 (mg_free C (mg_cut1 G)) (fun r u H1 locs1 hp B => go r u H1 locs1 hp (mg_left C G B))
theorem jX_settle {a : Nat → Nat} {cI cZ : ClassId} {ax ay sx sy mx my mc mv mb qx qy qc : AR} {up lo : Int64} {ww : va_W} {n k : Nat} (C : mg_cx p s m args meth c cc ret nL R_law A) (G : mg_wd D (mg_ty cI cZ) A s ((wX a cI cZ (nI n) (nI k) ax ay sx sy mx my mc mv mb qx qy qc up lo) ++ ww) H locs) (hn : n ≤ 24) (hk : 1 ≤ k ∧ k ≤ 4) (hp : ∀ p, p < n → (-50 ≤ (ax p).toInt ∧ (ax p).toInt ≤ 50) ∧ (-50 ≤ (ay p).toInt ∧ (ay p).toInt ≤ 50)) (hs : ∀ g, g < 4 → (-50 ≤ (sx g).toInt ∧ (sx g).toInt ≤ 50) ∧ (-50 ≤ (sy g).toInt ∧ (sy g).toInt ≤ 50)) (hR : 4 + 1 ≤ R.frames ∧ 8 + (3 + 11) + 111 ≤ R.locals) (hf : cells ≤ R.cells ∧ slots ≤ R.slots) (hsz : ls.size = nL) (hrm : (rest.map fun v => v.category).sum ≤ 8) (hdg : decode cc pc = .ok (.invokevirtual 42, 3))
    (go : ∀ (r : Int32) (u : AR × AR × AR × AR × Int64 × Int64) (H1 : Heap) (locs1 : List Loc), (r = nI (mg_st ax ay k n 40 0 (mg_rs 24 mb mg_om, mg_rs 4 mx sx, mg_rs 4 my sy, mg_rs 4 mc mg_o1)).1 ∧ mg_Iv n k ax ay (mg_st ax ay k n 40 0 (mg_rs 24 mb mg_om, mg_rs 4 mx sx, mg_rs 4 my sy, mg_rs 4 mc mg_o1)).2.2.1 (mg_st ax ay k n 40 0 (mg_rs 24 mb mg_om, mg_rs 4 mx sx, mg_rs 4 my sy, mg_rs 4 mc mg_o1)).2.2.2.1 (mg_st ax ay k n 40 0 (mg_rs 24 mb mg_om, mg_rs 4 mx sx, mg_rs 4 my sy, mg_rs 4 mc mg_o1)).2.2.2.2 (mg_st ax ay k n 40 0 (mg_rs 24 mb mg_om, mg_rs 4 mx sx, mg_rs 4 my sy, mg_rs 4 mc mg_o1)).2.1 u.1) → mg_wd D (mg_ty cI cZ) A s ((wX a cI cZ (nI n) (nI k) ax ay sx sy ((mg_st ax ay k n 40 0 (mg_rs 24 mb mg_om, mg_rs 4 mx sx, mg_rs 4 my sy, mg_rs 4 mc mg_o1)).2.2.1) ((mg_st ax ay k n 40 0 (mg_rs 24 mb mg_om, mg_rs 4 mx sx, mg_rs 4 my sy, mg_rs 4 mc mg_o1)).2.2.2.1) ((mg_st ax ay k n 40 0 (mg_rs 24 mb mg_om, mg_rs 4 mx sx, mg_rs 4 my sy, mg_rs 4 mc mg_o1)).2.2.2.2) (u.1) ((mg_st ax ay k n 40 0 (mg_rs 24 mb mg_om, mg_rs 4 mx sx, mg_rs 4 my sy, mg_rs 4 mc mg_o1)).2.1) (u.2.1) (u.2.2.1) (u.2.2.2.1) (u.2.2.2.2.1) (u.2.2.2.2.2)) ++ ww) H1 locs1 → W p l e R s m args below meth c H1 locs1 cells slots Q (F0 m (pc + 3) ls (.int r :: rest))) : W p l e R s m args below meth c H locs cells slots Q (F0 m pc ls (.ref (a 0) :: rest)) := by
  have hts := C.2.2.2.2.2.1
  exact mg_ci (mg_runV C (mg_cut1 G) (kX_settle l D a cI cZ ax ay sx sy mx my mc mv mb qx qy qc up lo H.size n k hn hk hp hs) (cwV 0 hts (lw_V q120 q121 q122 q10 q123) rfl rfl rfl (by decide +kernel) hR) (ci := 0) rfl rfl rfl rfl hsz rfl hrm hdg hf) G.2.2.2 (mg_free C (mg_cut1 G)) (fun r u H1 locs1 hp B => go r u H1 locs1 hp (mg_left C G B))
theorem jX_group {a : Nat → Nat} {cI cZ : ClassId} {kk : Int32} {ax ay sx sy mx my mc mv mb qx qy qc : AR} {up lo : Int64} {ww : va_W} {n : Nat} {v : Int32} (C : mg_cx p s m args meth c cc ret nL R_law A) (G : mg_wd D (mg_ty cI cZ) A s ((wX a cI cZ (nI n) kk ax ay sx sy mx my mc mv mb qx qy qc up lo) ++ ww) H locs) (hn : n ≤ 24) (hR : 0 + 1 ≤ R.frames ∧ 8 + (2 + 11) + 0 ≤ R.locals) (hf : cells ≤ R.cells ∧ slots ≤ R.slots) (hsz : ls.size = nL) (hrm : (rest.map fun v => v.category).sum ≤ 8) (hdg : decode cc pc = .ok (.invokevirtual 46, 3))
    (go : ∀ (r : Int32) (H1 : Heap) (locs1 : List Loc), (r = if ¬ v < 0 ∧ v < nI n then mb v.toNatClampNeg else -1) → mg_wd D (mg_ty cI cZ) A s ((wX a cI cZ (nI n) kk ax ay sx sy mx my mc mv mb qx qy qc up lo) ++ ww) H1 locs1 → W p l e R s m args below meth c H1 locs1 cells slots Q (F0 m (pc + 3) ls (.int r :: rest))) : W p l e R s m args below meth c H locs cells slots Q (F0 m pc ls (.int v :: .ref (a 0) :: rest)) := by
  have hts := C.2.2.2.2.2.1
  exact mg_ci (mg_runV C (mg_cut1 G) (kX_group l D a cI cZ kk ax ay sx sy mx my mc mv mb qx qy qc up lo H.size n v hn) (cwV 1 hts (lw_V q125 q126 q127 q10 q128) rfl rfl rfl (by decide +kernel) hR) (ci := 0) rfl rfl rfl rfl hsz rfl hrm hdg hf) G.2.2.2 (mg_free C (mg_cut1 G)) (fun r u H1 locs1 hp B => go r H1 locs1 hp (mg_left C G B))
theorem jX_size {a : Nat → Nat} {cI cZ : ClassId} {kk : Int32} {ax ay sx sy mx my mc mv mb qx qy qc : AR} {up lo : Int64} {ww : va_W} {n : Nat} {v : Int32} (C : mg_cx p s m args meth c cc ret nL R_law A) (G : mg_wd D (mg_ty cI cZ) A s ((wX a cI cZ (nI n) kk ax ay sx sy mx my mc mv mb qx qy qc up lo) ++ ww) H locs) (hn : n ≤ 24) (hR : 0 + 1 ≤ R.frames ∧ 8 + (4 + 11) + 0 ≤ R.locals) (hf : cells ≤ R.cells ∧ slots ≤ R.slots) (hsz : ls.size = nL) (hrm : (rest.map fun v => v.category).sum ≤ 8) (hdg : decode cc pc = .ok (.invokevirtual 50, 3))
    (go : ∀ (r : Int32) (H1 : Heap) (locs1 : List Loc), (r = mg_sz mb v n) → mg_wd D (mg_ty cI cZ) A s ((wX a cI cZ (nI n) kk ax ay sx sy mx my mc mv mb qx qy qc up lo) ++ ww) H1 locs1 → W p l e R s m args below meth c H1 locs1 cells slots Q (F0 m (pc + 3) ls (.int r :: rest))) : W p l e R s m args below meth c H locs cells slots Q (F0 m pc ls (.int v :: .ref (a 0) :: rest)) := by
  have hts := C.2.2.2.2.2.1
  exact mg_ci (mg_runV C (mg_cut1 G) (kX_size l D a cI cZ kk ax ay sx sy mx my mc mv mb qx qy qc up lo H.size n v hn) (cwV 1 hts (lw_V q129 q130 q131 q10 q132) rfl rfl rfl (by decide +kernel) hR) (ci := 0) rfl rfl rfl rfl hsz rfl hrm hdg hf) G.2.2.2 (mg_free C (mg_cut1 G)) (fun r u H1 locs1 hp B => go r H1 locs1 hp (mg_left C G B))
theorem jX_sum {a : Nat → Nat} {cI cZ : ClassId} {kk : Int32} {ax ay sx sy mx my mc mv mb qx qy qc : AR} {up lo : Int64} {ww : va_W} {n : Nat} {v w : Int32} (C : mg_cx p s m args meth c cc ret nL R_law A) (G : mg_wd D (mg_ty cI cZ) A s ((wX a cI cZ (nI n) kk ax ay sx sy mx my mc mv mb qx qy qc up lo) ++ ww) H locs) (hn : n ≤ 24) (hR : 0 + 1 ≤ R.frames ∧ 8 + (5 + 11) + 0 ≤ R.locals) (hf : cells ≤ R.cells ∧ slots ≤ R.slots) (hsz : ls.size = nL) (hrm : (rest.map fun v => v.category).sum ≤ 8) (hdg : decode cc pc = .ok (.invokevirtual 54, 3))
    (go : ∀ (r : Int32) (H1 : Heap) (locs1 : List Loc), (r = mg_sm ax ay mb v w n) → mg_wd D (mg_ty cI cZ) A s ((wX a cI cZ (nI n) kk ax ay sx sy mx my mc mv mb qx qy qc up lo) ++ ww) H1 locs1 → W p l e R s m args below meth c H1 locs1 cells slots Q (F0 m (pc + 3) ls (.int r :: rest))) : W p l e R s m args below meth c H locs cells slots Q (F0 m pc ls (.int w :: .int v :: .ref (a 0) :: rest)) := by
  have hts := C.2.2.2.2.2.1
  exact mg_ci (mg_runV C (mg_cut1 G) (kX_sum l D a cI cZ kk ax ay sx sy mx my mc mv mb qx qy qc up lo H.size n v w hn) (cwV 2 hts (lw_V q133 q134 q135 q10 q136) rfl rfl rfl (by decide +kernel) hR) (ci := 0) rfl rfl rfl rfl hsz rfl hrm hdg hf) G.2.2.2 (mg_free C (mg_cut1 G)) (fun r u H1 locs1 hp B => go r H1 locs1 hp (mg_left C G B))
theorem jX_near {a : Nat → Nat} {cI cZ : ClassId} {ax ay sx sy mx my mc mv mb qx qy qc : AR} {up lo : Int64} {ww : va_W} {n k : Nat} {v : Int32} (C : mg_cx p s m args meth c cc ret nL R_law A) (G : mg_wd D (mg_ty cI cZ) A s ((wX a cI cZ (nI n) (nI k) ax ay sx sy mx my mc mv mb qx qy qc up lo) ++ ww) H locs) (hn : n ≤ 24) (hk : 1 ≤ k ∧ k ≤ 4) (B : mg_Bd n ax ay mx my mc) (hR : 2 + 1 ≤ R.frames ∧ 8 + (4 + 11) + 53 ≤ R.locals) (hf : cells ≤ R.cells ∧ slots ≤ R.slots) (hsz : ls.size = nL) (hrm : (rest.map fun v => v.category).sum ≤ 8) (hdg : decode cc pc = .ok (.invokevirtual 58, 3))
    (go : ∀ (r : Int32) (u : Int64 × Int64) (H1 : Heap) (locs1 : List Loc), (r = if ¬ v < 0 ∧ v < nI k then nI (mg_nc ax ay mx my mc k v.toNatClampNeg n) else -1) → mg_wd D (mg_ty cI cZ) A s ((wX a cI cZ (nI n) (nI k) ax ay sx sy mx my mc mv mb qx qy qc (u.1) (u.2)) ++ ww) H1 locs1 → W p l e R s m args below meth c H1 locs1 cells slots Q (F0 m (pc + 3) ls (.int r :: rest))) : W p l e R s m args below meth c H locs cells slots Q (F0 m pc ls (.int v :: .ref (a 0) :: rest)) := by
  have hts := C.2.2.2.2.2.1
  exact mg_ci (mg_runV C (mg_cut1 G) (kX_near l D a cI cZ ax ay sx sy mx my mc mv mb qx qy qc up lo H.size n k v hn hk B) (cwV 1 hts (lw_V q137 q138 q139 q10 q140) rfl rfl rfl (by decide +kernel) hR) (ci := 0) rfl rfl rfl rfl hsz rfl hrm hdg hf) G.2.2.2 (mg_free C (mg_cut1 G)) (fun r u H1 locs1 hp B => go r u H1 locs1 hp (mg_left C G B))
theorem jM_add {b : Nat → Nat} {cI cZ : ClassId} {kk : Int32} {ax ay mb sx sy mx my mc : AR} {ww : va_W} {n : Nat} {v w : Int32} (C : mg_cx p s m args meth c cc ret nL R_law A) (G : mg_wd D (mg_ty cI cZ) A s (ww ++ (wM b cI (nI n) kk ax ay mb sx sy mx my mc)) H locs) (hn : n ≤ 24) (hR : 1 + 1 ≤ R.frames ∧ 8 + (3 + 11) + 21 ≤ R.locals) (hf : cells ≤ R.cells ∧ slots ≤ R.slots) (hsz : ls.size = nL) (hrm : (rest.map fun v => v.category).sum ≤ 8) (hdg : decode cc pc = .ok (.invokevirtual 17, 3))
    (go : ∀ (r : Int32) (u : Bool) (H1 : Heap) (locs1 : List Loc), ((u = true ∧ (mg_in v ∧ mg_in w ∧ n < 24) ∧ r = nI (n + 1)) ∨ (u = false ∧ ¬ (mg_in v ∧ mg_in w ∧ n < 24) ∧ r = -1)) → mg_wd D (mg_ty cI cZ) A s (ww ++ (cond u (wM b cI (nI (n + 1)) kk (upd ax n v) (upd ay n w) (mg_rs 24 mb mg_om) sx sy (mg_rs 4 mx sx) (mg_rs 4 my sy) (mg_rs 4 mc mg_o1)) (wM b cI (nI n) kk ax ay mb sx sy mx my mc))) H1 locs1 → W p l e R s m args below meth c H1 locs1 cells slots Q (F0 m (pc + 3) ls (.int r :: rest))) : W p l e R s m args below meth c H locs cells slots Q (F0 m pc ls (.int w :: .int v :: .ref (b 0) :: rest)) := by
  have hts := C.2.2.2.2.2.1
  exact mg_ci (mg_runV C (mg_cut2 G) (kM_add l D b cI cZ kk ax ay mb sx sy mx my mc H.size n v w hn) (cwV 2 hts (lw_V q186 q187 q188 q11 q189) rfl rfl rfl (by decide +kernel) hR) (ci := 1) rfl rfl rfl rfl hsz rfl hrm hdg hf) G.2.2.2 (mg_free C (mg_cut2 G)) (fun r u H1 locs1 hp B => go r u H1 locs1 hp (mg_right C G B))
theorem jM_drop {b : Nat → Nat} {cI cZ : ClassId} {kk : Int32} {ax ay mb sx sy mx my mc : AR} {ww : va_W} {n : Nat} {v : Int32} (C : mg_cx p s m args meth c cc ret nL R_law A) (G : mg_wd D (mg_ty cI cZ) A s (ww ++ (wM b cI (nI n) kk ax ay mb sx sy mx my mc)) H locs) (hn : n ≤ 24) (hR : 1 + 1 ≤ R.frames ∧ 8 + (3 + 11) + 21 ≤ R.locals) (hf : cells ≤ R.cells ∧ slots ≤ R.slots) (hsz : ls.size = nL) (hrm : (rest.map fun v => v.category).sum ≤ 8) (hdg : decode cc pc = .ok (.invokevirtual 22, 3))
    (go : ∀ (r : Int32) (u : Bool) (H1 : Heap) (locs1 : List Loc), ((u = true ∧ (¬ v < 0 ∧ v < nI n) ∧ r = nI (n - 1)) ∨ (u = false ∧ ¬ (¬ v < 0 ∧ v < nI n) ∧ r = -1)) → mg_wd D (mg_ty cI cZ) A s (ww ++ (cond u (wM b cI (nI (n - 1)) kk (mg_sh v.toNatClampNeg (n - 1) ax) (mg_sh v.toNatClampNeg (n - 1) ay) (mg_rs 24 mb mg_om) sx sy (mg_rs 4 mx sx) (mg_rs 4 my sy) (mg_rs 4 mc mg_o1)) (wM b cI (nI n) kk ax ay mb sx sy mx my mc))) H1 locs1 → W p l e R s m args below meth c H1 locs1 cells slots Q (F0 m (pc + 3) ls (.int r :: rest))) : W p l e R s m args below meth c H locs cells slots Q (F0 m pc ls (.int v :: .ref (b 0) :: rest)) := by
  have hts := C.2.2.2.2.2.1
  exact mg_ci (mg_runV C (mg_cut2 G) (kM_drop l D b cI cZ kk ax ay mb sx sy mx my mc H.size n v hn) (cwV 1 hts (lw_V q193 q194 q195 q11 q196) rfl rfl rfl (by decide +kernel) hR) (ci := 1) rfl rfl rfl rfl hsz rfl hrm hdg hf) G.2.2.2 (mg_free C (mg_cut2 G)) (fun r u H1 locs1 hp B => go r u H1 locs1 hp (mg_right C G B))
theorem jM_seed {b : Nat → Nat} {cI cZ : ClassId} {pt kk : Int32} {ax ay mb sx sy mx my mc : AR} {ww : va_W} {v x1 y1 : Int32} (C : mg_cx p s m args meth c cc ret nL R_law A) (G : mg_wd D (mg_ty cI cZ) A s (ww ++ (wM b cI pt kk ax ay mb sx sy mx my mc)) H locs)  (hR : 1 + 1 ≤ R.frames ∧ 8 + (4 + 11) + 21 ≤ R.locals) (hf : cells ≤ R.cells ∧ slots ≤ R.slots) (hsz : ls.size = nL) (hrm : (rest.map fun v => v.category).sum ≤ 8) (hdg : decode cc pc = .ok (.invokevirtual 27, 3))
    (go : ∀ (r : Int32) (u : Bool) (H1 : Heap) (locs1 : List Loc), ((u = true ∧ ((¬ v < 0 ∧ ¬ 3 < v) ∧ mg_in x1 ∧ mg_in y1) ∧ r = 0) ∨ (u = false ∧ ¬ ((¬ v < 0 ∧ ¬ 3 < v) ∧ mg_in x1 ∧ mg_in y1) ∧ r = -1)) → mg_wd D (mg_ty cI cZ) A s (ww ++ (cond u (wM b cI pt kk ax ay (mg_rs 24 mb mg_om) (upd sx v.toNatClampNeg x1) (upd sy v.toNatClampNeg y1) (mg_rs 4 mx (upd sx v.toNatClampNeg x1)) (mg_rs 4 my (upd sy v.toNatClampNeg y1)) (mg_rs 4 mc mg_o1)) (wM b cI pt kk ax ay mb sx sy mx my mc))) H1 locs1 → W p l e R s m args below meth c H1 locs1 cells slots Q (F0 m (pc + 3) ls (.int r :: rest))) : W p l e R s m args below meth c H locs cells slots Q (F0 m pc ls (.int y1 :: .int x1 :: .int v :: .ref (b 0) :: rest)) := by
  have hts := C.2.2.2.2.2.1
  exact mg_ci (mg_runV C (mg_cut2 G) (kM_seed l D b cI cZ pt kk ax ay mb sx sy mx my mc H.size v x1 y1 ) (cwV 3 hts (lw_V q197 q198 q199 q11 q200) rfl rfl rfl (by decide +kernel) hR) (ci := 1) rfl rfl rfl rfl hsz rfl hrm hdg hf) G.2.2.2 (mg_free C (mg_cut2 G)) (fun r u H1 locs1 hp B => go r u H1 locs1 hp (mg_right C G B))
theorem jM_groups {b : Nat → Nat} {cI cZ : ClassId} {pt kk : Int32} {ax ay mb sx sy mx my mc : AR} {ww : va_W} {v : Int32} (C : mg_cx p s m args meth c cc ret nL R_law A) (G : mg_wd D (mg_ty cI cZ) A s (ww ++ (wM b cI pt kk ax ay mb sx sy mx my mc)) H locs)  (hR : 1 + 1 ≤ R.frames ∧ 8 + (2 + 11) + 21 ≤ R.locals) (hf : cells ≤ R.cells ∧ slots ≤ R.slots) (hsz : ls.size = nL) (hrm : (rest.map fun v => v.category).sum ≤ 8) (hdg : decode cc pc = .ok (.invokevirtual 32, 3))
    (go : ∀ (H1 : Heap) (locs1 : List Loc), mg_wd D (mg_ty cI cZ) A s (ww ++ (wM b cI pt (mg_kf v) ax ay (mg_rs 24 mb mg_om) sx sy (mg_rs 4 mx sx) (mg_rs 4 my sy) (mg_rs 4 mc mg_o1))) H1 locs1 → W p l e R s m args below meth c H1 locs1 cells slots Q (F0 m (pc + 3) ls (rest))) : W p l e R s m args below meth c H locs cells slots Q (F0 m pc ls (.int v :: .ref (b 0) :: rest)) := by
  have hts := C.2.2.2.2.2.1
  exact mg_cv (mg_runV C (mg_cut2 G) (kM_groups l D b cI cZ pt kk ax ay mb sx sy mx my mc H.size v ) (cwV 1 hts (lw_V q201 q202 q203 q11 q204) rfl rfl rfl (by decide +kernel) hR) (ci := 1) rfl rfl rfl rfl hsz rfl hrm hdg hf) G.2.2.2 (mg_free C (mg_cut2 G)) (fun u H1 locs1 hp B => go H1 locs1 (mg_right C G B))
theorem jM_reset {b : Nat → Nat} {cI cZ : ClassId} {pt kk : Int32} {ax ay mb sx sy mx my mc : AR} {ww : va_W}  (C : mg_cx p s m args meth c cc ret nL R_law A) (G : mg_wd D (mg_ty cI cZ) A s (ww ++ (wM b cI pt kk ax ay mb sx sy mx my mc)) H locs)  (hR : 0 + 1 ≤ R.frames ∧ 8 + (2 + 11) + 0 ≤ R.locals) (hf : cells ≤ R.cells ∧ slots ≤ R.slots) (hsz : ls.size = nL) (hrm : (rest.map fun v => v.category).sum ≤ 8) (hdg : decode cc pc = .ok (.invokevirtual 36, 3))
    (go : ∀ (H1 : Heap) (locs1 : List Loc), mg_wd D (mg_ty cI cZ) A s (ww ++ (wM b cI pt kk ax ay (mg_rs 24 mb mg_om) sx sy (mg_rs 4 mx sx) (mg_rs 4 my sy) (mg_rs 4 mc mg_o1))) H1 locs1 → W p l e R s m args below meth c H1 locs1 cells slots Q (F0 m (pc + 3) ls (rest))) : W p l e R s m args below meth c H locs cells slots Q (F0 m pc ls (.ref (b 0) :: rest)) := by
  have hts := C.2.2.2.2.2.1
  exact mg_cv (mg_runV C (mg_cut2 G) (kM_reset l D b cI cZ pt kk ax ay mb sx sy mx my mc H.size  ) (cwV 0 hts (lw_V q205 q152 q153 q11 q154) rfl rfl rfl (by decide +kernel) hR) (ci := 1) rfl rfl rfl rfl hsz rfl hrm hdg hf) G.2.2.2 (mg_free C (mg_cut2 G)) (fun u H1 locs1 hp B => go H1 locs1 (mg_right C G B))
theorem jM_round {b : Nat → Nat} {cI cZ : ClassId} {ax ay mb sx sy mx my mc : AR} {ww : va_W} {n k : Nat} (C : mg_cx p s m args meth c cc ret nL R_law A) (G : mg_wd D (mg_ty cI cZ) A s (ww ++ (wM b cI (nI n) (nI k) ax ay mb sx sy mx my mc)) H locs) (hn : n ≤ 24) (hk : 1 ≤ k ∧ k ≤ 4) (hR : 3 + 1 ≤ R.frames ∧ 8 + (4 + 11) + 72 ≤ R.locals) (hf : cells ≤ R.cells ∧ slots ≤ R.slots) (hsz : ls.size = nL) (hrm : (rest.map fun v => v.category).sum ≤ 8) (hdg : decode cc pc = .ok (.invokevirtual 41, 3))
    (go : ∀ (r : Int32) (H1 : Heap) (locs1 : List Loc), (r = nI (mg_rR ax ay k n (mb, mx, my, mc))) → mg_wd D (mg_ty cI cZ) A s (ww ++ (wM b cI (nI n) (nI k) ax ay ((mg_rS ax ay k n (mb, mx, my, mc)).1) sx sy ((mg_rS ax ay k n (mb, mx, my, mc)).2.1) ((mg_rS ax ay k n (mb, mx, my, mc)).2.2.1) ((mg_rS ax ay k n (mb, mx, my, mc)).2.2.2))) H1 locs1 → W p l e R s m args below meth c H1 locs1 cells slots Q (F0 m (pc + 3) ls (.int r :: rest))) : W p l e R s m args below meth c H locs cells slots Q (F0 m pc ls (.ref (b 0) :: rest)) := by
  have hts := C.2.2.2.2.2.1
  exact mg_ci (mg_runV C (mg_cut2 G) (kM_round l D b cI cZ ax ay mb sx sy mx my mc H.size n k hn hk) (cwV 0 hts (lw_V q206 q207 q208 q11 q209) rfl rfl rfl (by decide +kernel) hR) (ci := 1) rfl rfl rfl rfl hsz rfl hrm hdg hf) G.2.2.2 (mg_free C (mg_cut2 G)) (fun r u H1 locs1 hp B => go r H1 locs1 hp (mg_right C G B))
theorem jM_settle {b : Nat → Nat} {cI cZ : ClassId} {ax ay mb sx sy mx my mc : AR} {ww : va_W} {n k : Nat} (C : mg_cx p s m args meth c cc ret nL R_law A) (G : mg_wd D (mg_ty cI cZ) A s (ww ++ (wM b cI (nI n) (nI k) ax ay mb sx sy mx my mc)) H locs) (hn : n ≤ 24) (hk : 1 ≤ k ∧ k ≤ 4) (hR : 4 + 1 ≤ R.frames ∧ 8 + (3 + 11) + 95 ≤ R.locals) (hf : cells ≤ R.cells ∧ slots ≤ R.slots) (hsz : ls.size = nL) (hrm : (rest.map fun v => v.category).sum ≤ 8) (hdg : decode cc pc = .ok (.invokevirtual 45, 3))
    (go : ∀ (r : Int32) (H1 : Heap) (locs1 : List Loc), (r = nI (mg_st ax ay k n 40 0 (mg_rs 24 mb mg_om, mg_rs 4 mx sx, mg_rs 4 my sy, mg_rs 4 mc mg_o1)).1) → mg_wd D (mg_ty cI cZ) A s (ww ++ (wM b cI (nI n) (nI k) ax ay ((mg_st ax ay k n 40 0 (mg_rs 24 mb mg_om, mg_rs 4 mx sx, mg_rs 4 my sy, mg_rs 4 mc mg_o1)).2.1) sx sy ((mg_st ax ay k n 40 0 (mg_rs 24 mb mg_om, mg_rs 4 mx sx, mg_rs 4 my sy, mg_rs 4 mc mg_o1)).2.2.1) ((mg_st ax ay k n 40 0 (mg_rs 24 mb mg_om, mg_rs 4 mx sx, mg_rs 4 my sy, mg_rs 4 mc mg_o1)).2.2.2.1) ((mg_st ax ay k n 40 0 (mg_rs 24 mb mg_om, mg_rs 4 mx sx, mg_rs 4 my sy, mg_rs 4 mc mg_o1)).2.2.2.2))) H1 locs1 → W p l e R s m args below meth c H1 locs1 cells slots Q (F0 m (pc + 3) ls (.int r :: rest))) : W p l e R s m args below meth c H locs cells slots Q (F0 m pc ls (.ref (b 0) :: rest)) := by
  have hts := C.2.2.2.2.2.1
  exact mg_ci (mg_runV C (mg_cut2 G) (kM_settle l D b cI cZ ax ay mb sx sy mx my mc H.size n k hn hk) (cwV 0 hts (lw_V q230 q231 q232 q11 q233) rfl rfl rfl (by decide +kernel) hR) (ci := 1) rfl rfl rfl rfl hsz rfl hrm hdg hf) G.2.2.2 (mg_free C (mg_cut2 G)) (fun r u H1 locs1 hp B => go r H1 locs1 hp (mg_right C G B))
theorem jM_group {b : Nat → Nat} {cI cZ : ClassId} {kk : Int32} {ax ay mb sx sy mx my mc : AR} {ww : va_W} {n : Nat} {v : Int32} (C : mg_cx p s m args meth c cc ret nL R_law A) (G : mg_wd D (mg_ty cI cZ) A s (ww ++ (wM b cI (nI n) kk ax ay mb sx sy mx my mc)) H locs) (hn : n ≤ 24) (hR : 0 + 1 ≤ R.frames ∧ 8 + (2 + 11) + 0 ≤ R.locals) (hf : cells ≤ R.cells ∧ slots ≤ R.slots) (hsz : ls.size = nL) (hrm : (rest.map fun v => v.category).sum ≤ 8) (hdg : decode cc pc = .ok (.invokevirtual 49, 3))
    (go : ∀ (r : Int32) (H1 : Heap) (locs1 : List Loc), (r = if ¬ v < 0 ∧ v < nI n then mb v.toNatClampNeg else -1) → mg_wd D (mg_ty cI cZ) A s (ww ++ (wM b cI (nI n) kk ax ay mb sx sy mx my mc)) H1 locs1 → W p l e R s m args below meth c H1 locs1 cells slots Q (F0 m (pc + 3) ls (.int r :: rest))) : W p l e R s m args below meth c H locs cells slots Q (F0 m pc ls (.int v :: .ref (b 0) :: rest)) := by
  have hts := C.2.2.2.2.2.1
  exact mg_ci (mg_runV C (mg_cut2 G) (kM_group l D b cI cZ kk ax ay mb sx sy mx my mc H.size n v hn) (cwV 1 hts (lw_V q235 q236 q237 q11 q238) rfl rfl rfl (by decide +kernel) hR) (ci := 1) rfl rfl rfl rfl hsz rfl hrm hdg hf) G.2.2.2 (mg_free C (mg_cut2 G)) (fun r u H1 locs1 hp B => go r H1 locs1 hp (mg_right C G B))
theorem jM_size {b : Nat → Nat} {cI cZ : ClassId} {kk : Int32} {ax ay mb sx sy mx my mc : AR} {ww : va_W} {n : Nat} {v : Int32} (C : mg_cx p s m args meth c cc ret nL R_law A) (G : mg_wd D (mg_ty cI cZ) A s (ww ++ (wM b cI (nI n) kk ax ay mb sx sy mx my mc)) H locs) (hn : n ≤ 24) (hR : 0 + 1 ≤ R.frames ∧ 8 + (4 + 11) + 0 ≤ R.locals) (hf : cells ≤ R.cells ∧ slots ≤ R.slots) (hsz : ls.size = nL) (hrm : (rest.map fun v => v.category).sum ≤ 8) (hdg : decode cc pc = .ok (.invokevirtual 53, 3))
    (go : ∀ (r : Int32) (H1 : Heap) (locs1 : List Loc), (r = mg_sz mb v n) → mg_wd D (mg_ty cI cZ) A s (ww ++ (wM b cI (nI n) kk ax ay mb sx sy mx my mc)) H1 locs1 → W p l e R s m args below meth c H1 locs1 cells slots Q (F0 m (pc + 3) ls (.int r :: rest))) : W p l e R s m args below meth c H locs cells slots Q (F0 m pc ls (.int v :: .ref (b 0) :: rest)) := by
  have hts := C.2.2.2.2.2.1
  exact mg_ci (mg_runV C (mg_cut2 G) (kM_size l D b cI cZ kk ax ay mb sx sy mx my mc H.size n v hn) (cwV 1 hts (lw_V q239 q223 q224 q11 q225) rfl rfl rfl (by decide +kernel) hR) (ci := 1) rfl rfl rfl rfl hsz rfl hrm hdg hf) G.2.2.2 (mg_free C (mg_cut2 G)) (fun r u H1 locs1 hp B => go r H1 locs1 hp (mg_right C G B))
theorem jM_sum {b : Nat → Nat} {cI cZ : ClassId} {kk : Int32} {ax ay mb sx sy mx my mc : AR} {ww : va_W} {n : Nat} {v w : Int32} (C : mg_cx p s m args meth c cc ret nL R_law A) (G : mg_wd D (mg_ty cI cZ) A s (ww ++ (wM b cI (nI n) kk ax ay mb sx sy mx my mc)) H locs) (hn : n ≤ 24) (hR : 0 + 1 ≤ R.frames ∧ 8 + (5 + 11) + 0 ≤ R.locals) (hf : cells ≤ R.cells ∧ slots ≤ R.slots) (hsz : ls.size = nL) (hrm : (rest.map fun v => v.category).sum ≤ 8) (hdg : decode cc pc = .ok (.invokevirtual 57, 3))
    (go : ∀ (r : Int32) (H1 : Heap) (locs1 : List Loc), (r = mg_sm ax ay mb v w n) → mg_wd D (mg_ty cI cZ) A s (ww ++ (wM b cI (nI n) kk ax ay mb sx sy mx my mc)) H1 locs1 → W p l e R s m args below meth c H1 locs1 cells slots Q (F0 m (pc + 3) ls (.int r :: rest))) : W p l e R s m args below meth c H locs cells slots Q (F0 m pc ls (.int w :: .int v :: .ref (b 0) :: rest)) := by
  have hts := C.2.2.2.2.2.1
  exact mg_ci (mg_runV C (mg_cut2 G) (kM_sum l D b cI cZ kk ax ay mb sx sy mx my mc H.size n v w hn) (cwV 2 hts (lw_V q240 q227 q228 q11 q229) rfl rfl rfl (by decide +kernel) hR) (ci := 1) rfl rfl rfl rfl hsz rfl hrm hdg hf) G.2.2.2 (mg_free C (mg_cut2 G)) (fun r u H1 locs1 hp B => go r H1 locs1 hp (mg_right C G B))
theorem jM_near {b : Nat → Nat} {cI cZ : ClassId} {ax ay mb sx sy mx my mc : AR} {ww : va_W} {n k : Nat} {v : Int32} (C : mg_cx p s m args meth c cc ret nL R_law A) (G : mg_wd D (mg_ty cI cZ) A s (ww ++ (wM b cI (nI n) (nI k) ax ay mb sx sy mx my mc)) H locs) (hn : n ≤ 24) (hk : 1 ≤ k ∧ k ≤ 4) (hR : 3 + 1 ≤ R.frames ∧ 8 + (5 + 11) + 72 ≤ R.locals) (hf : cells ≤ R.cells ∧ slots ≤ R.slots) (hsz : ls.size = nL) (hrm : (rest.map fun v => v.category).sum ≤ 8) (hdg : decode cc pc = .ok (.invokevirtual 61, 3))
    (go : ∀ (r : Int32) (H1 : Heap) (locs1 : List Loc), (r = if ¬ v < 0 ∧ v < nI k then nI (mg_nc ax ay mx my mc k v.toNatClampNeg n) else -1) → mg_wd D (mg_ty cI cZ) A s (ww ++ (wM b cI (nI n) (nI k) ax ay mb sx sy mx my mc)) H1 locs1 → W p l e R s m args below meth c H1 locs1 cells slots Q (F0 m (pc + 3) ls (.int r :: rest))) : W p l e R s m args below meth c H locs cells slots Q (F0 m pc ls (.int v :: .ref (b 0) :: rest)) := by
  have hts := C.2.2.2.2.2.1
  exact mg_ci (mg_runV C (mg_cut2 G) (kM_near l D b cI cZ ax ay mb sx sy mx my mc H.size n k v hn hk) (cwV 1 hts (lw_V q241 q242 q243 q11 q244) rfl rfl rfl (by decide +kernel) hR) (ci := 1) rfl rfl rfl rfl hsz rfl hrm hdg hf) G.2.2.2 (mg_free C (mg_cut2 G)) (fun r u H1 locs1 hp B => go r H1 locs1 hp (mg_right C G B))
theorem mg_sld {bs L : Nat} {xs : AR} {tys : mg_T} {ws : va_W} (C : mg_cx p s m args meth c cc ret nL own A) (hX : va_X bs L xs s s.heap) (hbl : bs < s.heap.size) (hbA : ¬ A bs) (G : mg_wd D tys A s ws H locs) {j : Nat} (hj : j < L) (hL : L ≤ 256) (hdg : decode cc pc = .ok (.iaload, 1)) (go : W p l e R s m args below meth c H locs cells slots Q (F0 m (pc + 1) ls (.int (xs j) :: rest))) : W p l e R s m args below meth c H locs cells slots Q (F0 m pc ls (.int (nI j) :: .ref bs :: rest)) := by
  obtain ⟨hx, hb, hr, hml, hown, hts, hlk, hA⟩ := C
  refine va_sld hx hb hX hbl hbA G.2.2.2 (vp_in_nI hj (by omega)) hdg ?_
  rw [nI_clamp (by omega)]; exact go
end GL
end
section
/-! the law's cases -/
def mg_LI (n k : Nat) (ax ay sx sy mx my mc mb mv : AR) : Prop := n ≤ 24 ∧ (1 ≤ k ∧ k ≤ 4) ∧ (∀ g, g < 4 → (-50 ≤ (sx g).toInt ∧ (sx g).toInt ≤ 50) ∧ (-50 ≤ (sy g).toInt ∧ (sy g).toInt ≤ 50)) ∧ mg_Iv n k ax ay mx my mc mb mv
theorem mg_in_i {v : Int32} (h : mg_in v) : -50 ≤ v.toInt ∧ v.toInt ≤ 50 := by
  obtain ⟨h1, h2⟩ := h
  rw [Int32.lt_iff_toInt_lt] at h1 h2
  have e1 : (-50 : Int32).toInt = -50 := by decide
  have e2 : (50 : Int32).toInt = 50 := by decide
  omega
section LI
variable {n k : Nat} {ax ay sx sy mx my mc mb mv : AR} {mx2 my2 mc2 mb2 mv2 : AR}
theorem mg_LI_reset (I : mg_LI n k ax ay sx sy mx my mc mb mv) : mg_LI n k ax ay sx sy (mg_rs 4 mx2 sx) (mg_rs 4 my2 sy) (mg_rs 4 mc2 mg_o1) (mg_rs 24 mb2 mg_om) mv2 := ⟨I.1, I.2.1, I.2.2.1, mg_rs_iv I.1 I.2.2.2.1.1 I.2.2.1⟩
theorem mg_LI_add (I : mg_LI n k ax ay sx sy mx my mc mb mv) {v w : Int32} (ok : mg_in v ∧ mg_in w ∧ n < 24) : mg_LI (n + 1) k (upd ax n v) (upd ay n w) sx sy (mg_rs 4 mx2 sx) (mg_rs 4 my2 sy) (mg_rs 4 mc2 mg_o1) (mg_rs 24 mb2 mg_om) mv2 := by
  refine ⟨ok.2.2, I.2.1, I.2.2.1, mg_rs_iv ok.2.2 (fun p hp => ?_) I.2.2.1⟩
  unfold upd
  by_cases q : p = n
  · rw [if_pos q, if_pos q]; exact ⟨mg_in_i ok.1, mg_in_i ok.2.1⟩
  · rw [if_neg q, if_neg q]; exact I.2.2.2.1.1 p (by omega)
theorem mg_LI_drop (I : mg_LI n k ax ay sx sy mx my mc mb mv) (j : Nat) : mg_LI (n - 1) k (mg_sh j (n - 1) ax) (mg_sh j (n - 1) ay) sx sy (mg_rs 4 mx2 sx) (mg_rs 4 my2 sy) (mg_rs 4 mc2 mg_o1) (mg_rs 24 mb2 mg_om) mv2 := by
  have hn := I.1
  refine ⟨by omega, I.2.1, I.2.2.1, mg_rs_iv (by omega) (fun p hp => ?_) I.2.2.1⟩
  unfold mg_sh
  by_cases q : j ≤ p ∧ p < n - 1
  · rw [if_pos q, if_pos q]; exact I.2.2.2.1.1 (p + 1) (by omega)
  · rw [if_neg q, if_neg q]; exact I.2.2.2.1.1 p (by omega)
theorem mg_LI_seed (I : mg_LI n k ax ay sx sy mx my mc mb mv) {v w : Int32} (j : Nat) (ok : mg_in v ∧ mg_in w) : mg_LI n k ax ay (upd sx j v) (upd sy j w) (mg_rs 4 mx2 (upd sx j v)) (mg_rs 4 my2 (upd sy j w)) (mg_rs 4 mc2 mg_o1) (mg_rs 24 mb2 mg_om) mv2 := by
  have hs : ∀ g, g < 4 → (-50 ≤ (upd sx j v g).toInt ∧ (upd sx j v g).toInt ≤ 50) ∧ (-50 ≤ (upd sy j w g).toInt ∧ (upd sy j w g).toInt ≤ 50) := by
    intro g hg
    unfold upd
    by_cases q : g = j
    · rw [if_pos q, if_pos q]; exact ⟨mg_in_i ok.1, mg_in_i ok.2⟩
    · rw [if_neg q, if_neg q]; exact I.2.2.1 g hg
  exact ⟨I.1, I.2.1, hs, mg_rs_iv I.1 I.2.2.2.1.1 hs⟩
theorem mg_LI_groups (I : mg_LI n k ax ay sx sy mx my mc mb mv) {k2 : Nat} (h : 1 ≤ k2 ∧ k2 ≤ 4) : mg_LI n k2 ax ay sx sy (mg_rs 4 mx2 sx) (mg_rs 4 my2 sy) (mg_rs 4 mc2 mg_o1) (mg_rs 24 mb2 mg_om) mv2 := ⟨I.1, h, I.2.2.1, mg_rs_iv I.1 I.2.2.2.1.1 I.2.2.1⟩
end LI
theorem mg_kf_n (v : Int32) : ∃ k : Nat, (1 ≤ k ∧ k ≤ 4) ∧ mg_kf v = nI k := by
  unfold mg_kf
  by_cases h1 : 1 ≤ v
  · rw [if_pos h1]
    by_cases h2 : v ≤ 4
    · rw [if_pos h2]
      have h0 : ¬ v < 0 := by
        rw [Int32.lt_iff_toInt_lt]
        rw [Int32.le_iff_toInt_le] at h1
        have e1 : (1 : Int32).toInt = 1 := by decide
        have e2 : (0 : Int32).toInt = 0 := by decide
        omega
      obtain ⟨j, hj, rfl⟩ := nI_of h0
      exact ⟨j, ⟨(nI_leI (a := 1) (by decide) hj).mp h1, (nI_leI (b := 4) hj (by decide)).mp h2⟩, rfl⟩
    · rw [if_neg h2]; exact ⟨4, by decide, rfl⟩
  · rw [if_neg h1]; exact ⟨1, by decide, rfl⟩
def mg_GO (p : Program) (l : Launch) (e : Env) (s : State) (m : MethodId) (below : List Frame) (meth : Method) (c : Code) (Q : State → Prop) (D : va_G) (cI cZ : ClassId) (A : Nat → Prop) (a b : Nat → Nat) (bs i pc : Nat) : Prop :=
  ∀ (n k : Nat) (ax ay sx sy mx my mc mv mb qx qy qc : AR) (up lo : Int64) (H : Heap) (locs : List Loc) (ls : Array Slot), mg_LI n k ax ay sx sy mx my mc mb mv → mg_wd D (mg_ty cI cZ) A s (wX a cI cZ (nI n) (nI k) ax ay sx sy mx my mc mv mb qx qy qc up lo ++ wM b cI (nI n) (nI k) ax ay mb sx sy mx my mc) H locs → lv_has ls 4 [(0, .ref bs), (1, .ref (a 0)), (2, .ref (b 0)), (3, .int (nI i))] → W p l e room_1 s m #[Value.ref bs] below meth c H locs 600000 7290000 Q (F0 m pc ls [])
section GC
variable {p : Program} {l : Launch} {e : Env} {R : Room} {s : State} {m : MethodId} {args : Array Value} {below : List Frame} {meth : Method} {c : Code} {H : Heap} {locs : List Loc} {cells slots : Nat} {Q : State → Prop}
variable {cc : ByteArray} {ret : Option FieldType} {nL : Nat} {own : String} {A : Nat → Prop} {D : va_G} {pc : Nat} {ls : Array Slot} {rest : List Value}

set_option maxHeartbeats 4000000 in
set_option maxRecDepth 100000 in
theorem ll_add {a b : Nat → Nat} {cI cZ : ClassId} {bs L i : Nat} {xs : AR} (C : mg_cx p s m #[Value.ref bs] meth c cL_law ret 4 R_law A) (hX : va_X bs L xs s s.heap) (hbl : bs < s.heap.size) (hbA : ¬ A bs) (hi : i + 4 ≤ L) (hL : L ≤ 256) (go : mg_GO p l e s m below meth c Q D cI cZ A a b bs i 351) : mg_GO p l e s m below meth c Q D cI cZ A a b bs i 92 := by
  obtain ⟨hx, hb, hr, hml, hown, hts, hlk, hA⟩ := id C
  intro n k ax ay sx sy mx my mc mv mb qx qy qc up lo H locs ls I G hl
  obtain ⟨hn, hk, hs, hI⟩ := id I
  refine lv_aload_n hx hb dL_law_92 rfl (lv_at hl 1 rfl) ?_
  refine lv_aload_n hx hb dL_law_93 rfl (lv_at hl 0 rfl) ?_
  refine lv_iload_n hx hb dL_law_94 rfl (lv_at hl 3 rfl) ?_
  refine lv_iconst (v := (nI 1)) hx hb dL_law_95 (by decide) ?_
  refine mg_add hx hb dL_law_96 ?_
  refine mg_sld C hX hbl hbA G (by omega) hL dL_law_97 ?_
  refine lv_aload_n hx hb dL_law_98 rfl (lv_at hl 0 rfl) ?_
  refine lv_iload_n hx hb dL_law_99 rfl (lv_at hl 3 rfl) ?_
  refine lv_iconst (v := (nI 2)) hx hb dL_law_100 (by decide) ?_
  refine mg_add hx hb dL_law_101 ?_
  refine mg_sld C hX hbl hbA G (by omega) hL dL_law_102 ?_
  refine jX_add C G hn ⟨Nat.le_of_ble_eq_true rfl, Nat.le_of_ble_eq_true rfl⟩ ⟨Nat.le_refl _, Nat.le_refl _⟩ hl.1 (Nat.le_of_ble_eq_true rfl) dL_law_103 (fun r1 u1 H locs hp1 G => ?_)
  refine lv_aload_n hx hb dL_law_106 rfl (lv_at hl 2 rfl) ?_
  refine lv_aload_n hx hb dL_law_107 rfl (lv_at hl 0 rfl) ?_
  refine lv_iload_n hx hb dL_law_108 rfl (lv_at hl 3 rfl) ?_
  refine lv_iconst (v := (nI 1)) hx hb dL_law_109 (by decide) ?_
  refine mg_add hx hb dL_law_110 ?_
  refine mg_sld C hX hbl hbA G (by omega) hL dL_law_111 ?_
  refine lv_aload_n hx hb dL_law_112 rfl (lv_at hl 0 rfl) ?_
  refine lv_iload_n hx hb dL_law_113 rfl (lv_at hl 3 rfl) ?_
  refine lv_iconst (v := (nI 2)) hx hb dL_law_114 (by decide) ?_
  refine mg_add hx hb dL_law_115 ?_
  refine mg_sld C hX hbl hbA G (by omega) hL dL_law_116 ?_
  refine jM_add C G hn ⟨Nat.le_of_ble_eq_true rfl, Nat.le_of_ble_eq_true rfl⟩ ⟨Nat.le_refl _, Nat.le_refl _⟩ hl.1 (Nat.le_of_ble_eq_true rfl) dL_law_117 (fun r2 u2 H locs hp2 G => ?_)
  rcases hp1 with ⟨rfl, ok1, rfl⟩ | ⟨rfl, no1, rfl⟩
  · rcases hp2 with ⟨rfl, ok2, rfl⟩ | ⟨rfl, no2, rfl⟩
    · refine lv_icmp_eq (tgt := 351) hx hb dL_law_120 (by decide) (fun _ => ?_) (fun h => False.elim (h rfl))
      exact go (n + 1) k (upd ax n (xs (i + 1))) (upd ay n (xs (i + 2))) sx sy (mg_rs 4 mx sx) (mg_rs 4 my sy) (mg_rs 4 mc mg_o1) (mg_rs 4 mv mg_o1) (mg_rs 24 mb mg_om) qx qy qc up lo H locs ls (mg_LI_add I ok1) G hl
    · exact absurd ok1 no2
  · rcases hp2 with ⟨rfl, ok2, rfl⟩ | ⟨rfl, no2, rfl⟩
    · exact absurd ok2 no1
    · refine lv_icmp_eq (tgt := 351) hx hb dL_law_120 (by decide) (fun _ => ?_) (fun h => False.elim (h rfl))
      exact go n k ax ay sx sy mx my mc mv mb qx qy qc up lo H locs ls I G hl
set_option maxHeartbeats 4000000 in
set_option maxRecDepth 100000 in
theorem ll_drop {a b : Nat → Nat} {cI cZ : ClassId} {bs L i : Nat} {xs : AR} (C : mg_cx p s m #[Value.ref bs] meth c cL_law ret 4 R_law A) (hX : va_X bs L xs s s.heap) (hbl : bs < s.heap.size) (hbA : ¬ A bs) (hi : i + 4 ≤ L) (hL : L ≤ 256) (go : mg_GO p l e s m below meth c Q D cI cZ A a b bs i 351) : mg_GO p l e s m below meth c Q D cI cZ A a b bs i 125 := by
  obtain ⟨hx, hb, hr, hml, hown, hts, hlk, hA⟩ := id C
  intro n k ax ay sx sy mx my mc mv mb qx qy qc up lo H locs ls I G hl
  obtain ⟨hn, hk, hs, hI⟩ := id I
  refine lv_aload_n hx hb dL_law_125 rfl (lv_at hl 1 rfl) ?_
  refine lv_aload_n hx hb dL_law_126 rfl (lv_at hl 0 rfl) ?_
  refine lv_iload_n hx hb dL_law_127 rfl (lv_at hl 3 rfl) ?_
  refine lv_iconst (v := (nI 1)) hx hb dL_law_128 (by decide) ?_
  refine mg_add hx hb dL_law_129 ?_
  refine mg_sld C hX hbl hbA G (by omega) hL dL_law_130 ?_
  refine jX_drop C G hn ⟨Nat.le_of_ble_eq_true rfl, Nat.le_of_ble_eq_true rfl⟩ ⟨Nat.le_refl _, Nat.le_refl _⟩ hl.1 (Nat.le_of_ble_eq_true rfl) dL_law_131 (fun r1 u1 H locs hp1 G => ?_)
  refine lv_aload_n hx hb dL_law_134 rfl (lv_at hl 2 rfl) ?_
  refine lv_aload_n hx hb dL_law_135 rfl (lv_at hl 0 rfl) ?_
  refine lv_iload_n hx hb dL_law_136 rfl (lv_at hl 3 rfl) ?_
  refine lv_iconst (v := (nI 1)) hx hb dL_law_137 (by decide) ?_
  refine mg_add hx hb dL_law_138 ?_
  refine mg_sld C hX hbl hbA G (by omega) hL dL_law_139 ?_
  refine jM_drop C G hn ⟨Nat.le_of_ble_eq_true rfl, Nat.le_of_ble_eq_true rfl⟩ ⟨Nat.le_refl _, Nat.le_refl _⟩ hl.1 (Nat.le_of_ble_eq_true rfl) dL_law_140 (fun r2 u2 H locs hp2 G => ?_)
  rcases hp1 with ⟨rfl, ok1, rfl⟩ | ⟨rfl, no1, rfl⟩
  · rcases hp2 with ⟨rfl, ok2, rfl⟩ | ⟨rfl, no2, rfl⟩
    · refine lv_icmp_eq (tgt := 351) hx hb dL_law_143 (by decide) (fun _ => ?_) (fun h => False.elim (h rfl))
      exact go (n - 1) k (mg_sh (xs (i + 1)).toNatClampNeg (n - 1) ax) (mg_sh (xs (i + 1)).toNatClampNeg (n - 1) ay) sx sy (mg_rs 4 mx sx) (mg_rs 4 my sy) (mg_rs 4 mc mg_o1) (mg_rs 4 mv mg_o1) (mg_rs 24 mb mg_om) qx qy qc up lo H locs ls (mg_LI_drop I _) G hl
    · exact absurd ok1 no2
  · rcases hp2 with ⟨rfl, ok2, rfl⟩ | ⟨rfl, no2, rfl⟩
    · exact absurd ok2 no1
    · refine lv_icmp_eq (tgt := 351) hx hb dL_law_143 (by decide) (fun _ => ?_) (fun h => False.elim (h rfl))
      exact go n k ax ay sx sy mx my mc mv mb qx qy qc up lo H locs ls I G hl
set_option maxHeartbeats 4000000 in
set_option maxRecDepth 100000 in
theorem ll_seed {a b : Nat → Nat} {cI cZ : ClassId} {bs L i : Nat} {xs : AR} (C : mg_cx p s m #[Value.ref bs] meth c cL_law ret 4 R_law A) (hX : va_X bs L xs s s.heap) (hbl : bs < s.heap.size) (hbA : ¬ A bs) (hi : i + 4 ≤ L) (hL : L ≤ 256) (go : mg_GO p l e s m below meth c Q D cI cZ A a b bs i 351) : mg_GO p l e s m below meth c Q D cI cZ A a b bs i 148 := by
  obtain ⟨hx, hb, hr, hml, hown, hts, hlk, hA⟩ := id C
  intro n k ax ay sx sy mx my mc mv mb qx qy qc up lo H locs ls I G hl
  obtain ⟨hn, hk, hs, hI⟩ := id I
  refine lv_aload_n hx hb dL_law_148 rfl (lv_at hl 1 rfl) ?_
  refine lv_aload_n hx hb dL_law_149 rfl (lv_at hl 0 rfl) ?_
  refine lv_iload_n hx hb dL_law_150 rfl (lv_at hl 3 rfl) ?_
  refine lv_iconst (v := (nI 1)) hx hb dL_law_151 (by decide) ?_
  refine mg_add hx hb dL_law_152 ?_
  refine mg_sld C hX hbl hbA G (by omega) hL dL_law_153 ?_
  refine lv_aload_n hx hb dL_law_154 rfl (lv_at hl 0 rfl) ?_
  refine lv_iload_n hx hb dL_law_155 rfl (lv_at hl 3 rfl) ?_
  refine lv_iconst (v := (nI 2)) hx hb dL_law_156 (by decide) ?_
  refine mg_add hx hb dL_law_157 ?_
  refine mg_sld C hX hbl hbA G (by omega) hL dL_law_158 ?_
  refine lv_aload_n hx hb dL_law_159 rfl (lv_at hl 0 rfl) ?_
  refine lv_iload_n hx hb dL_law_160 rfl (lv_at hl 3 rfl) ?_
  refine lv_iconst (v := (nI 3)) hx hb dL_law_161 (by decide) ?_
  refine mg_add hx hb dL_law_162 ?_
  refine mg_sld C hX hbl hbA G (by omega) hL dL_law_163 ?_
  refine jX_seed C G  ⟨Nat.le_of_ble_eq_true rfl, Nat.le_of_ble_eq_true rfl⟩ ⟨Nat.le_refl _, Nat.le_refl _⟩ hl.1 (Nat.le_of_ble_eq_true rfl) dL_law_164 (fun r1 u1 H locs hp1 G => ?_)
  refine lv_aload_n hx hb dL_law_167 rfl (lv_at hl 2 rfl) ?_
  refine lv_aload_n hx hb dL_law_168 rfl (lv_at hl 0 rfl) ?_
  refine lv_iload_n hx hb dL_law_169 rfl (lv_at hl 3 rfl) ?_
  refine lv_iconst (v := (nI 1)) hx hb dL_law_170 (by decide) ?_
  refine mg_add hx hb dL_law_171 ?_
  refine mg_sld C hX hbl hbA G (by omega) hL dL_law_172 ?_
  refine lv_aload_n hx hb dL_law_173 rfl (lv_at hl 0 rfl) ?_
  refine lv_iload_n hx hb dL_law_174 rfl (lv_at hl 3 rfl) ?_
  refine lv_iconst (v := (nI 2)) hx hb dL_law_175 (by decide) ?_
  refine mg_add hx hb dL_law_176 ?_
  refine mg_sld C hX hbl hbA G (by omega) hL dL_law_177 ?_
  refine lv_aload_n hx hb dL_law_178 rfl (lv_at hl 0 rfl) ?_
  refine lv_iload_n hx hb dL_law_179 rfl (lv_at hl 3 rfl) ?_
  refine lv_iconst (v := (nI 3)) hx hb dL_law_180 (by decide) ?_
  refine mg_add hx hb dL_law_181 ?_
  refine mg_sld C hX hbl hbA G (by omega) hL dL_law_182 ?_
  refine jM_seed C G  ⟨Nat.le_of_ble_eq_true rfl, Nat.le_of_ble_eq_true rfl⟩ ⟨Nat.le_refl _, Nat.le_refl _⟩ hl.1 (Nat.le_of_ble_eq_true rfl) dL_law_183 (fun r2 u2 H locs hp2 G => ?_)
  rcases hp1 with ⟨rfl, ok1, rfl⟩ | ⟨rfl, no1, rfl⟩
  · rcases hp2 with ⟨rfl, ok2, rfl⟩ | ⟨rfl, no2, rfl⟩
    · refine lv_icmp_eq (tgt := 351) hx hb dL_law_186 (by decide) (fun _ => ?_) (fun h => False.elim (h rfl))
      exact go n k ax ay (upd sx (xs (i + 1)).toNatClampNeg (xs (i + 2))) (upd sy (xs (i + 1)).toNatClampNeg (xs (i + 3))) (mg_rs 4 mx (upd sx (xs (i + 1)).toNatClampNeg (xs (i + 2)))) (mg_rs 4 my (upd sy (xs (i + 1)).toNatClampNeg (xs (i + 3)))) (mg_rs 4 mc mg_o1) (mg_rs 4 mv mg_o1) (mg_rs 24 mb mg_om) qx qy qc up lo H locs ls (mg_LI_seed I _ ok1.2) G hl
    · exact absurd ok1 no2
  · rcases hp2 with ⟨rfl, ok2, rfl⟩ | ⟨rfl, no2, rfl⟩
    · exact absurd ok2 no1
    · refine lv_icmp_eq (tgt := 351) hx hb dL_law_186 (by decide) (fun _ => ?_) (fun h => False.elim (h rfl))
      exact go n k ax ay sx sy mx my mc mv mb qx qy qc up lo H locs ls I G hl
set_option maxHeartbeats 4000000 in
set_option maxRecDepth 100000 in
theorem ll_groups {a b : Nat → Nat} {cI cZ : ClassId} {bs L i : Nat} {xs : AR} (C : mg_cx p s m #[Value.ref bs] meth c cL_law ret 4 R_law A) (hX : va_X bs L xs s s.heap) (hbl : bs < s.heap.size) (hbA : ¬ A bs) (hi : i + 4 ≤ L) (hL : L ≤ 256) (go : mg_GO p l e s m below meth c Q D cI cZ A a b bs i 351) : mg_GO p l e s m below meth c Q D cI cZ A a b bs i 191 := by
  obtain ⟨hx, hb, hr, hml, hown, hts, hlk, hA⟩ := id C
  intro n k ax ay sx sy mx my mc mv mb qx qy qc up lo H locs ls I G hl
  obtain ⟨hn, hk, hs, hI⟩ := id I
  refine lv_aload_n hx hb dL_law_191 rfl (lv_at hl 1 rfl) ?_
  refine lv_aload_n hx hb dL_law_192 rfl (lv_at hl 0 rfl) ?_
  refine lv_iload_n hx hb dL_law_193 rfl (lv_at hl 3 rfl) ?_
  refine lv_iconst (v := (nI 1)) hx hb dL_law_194 (by decide) ?_
  refine mg_add hx hb dL_law_195 ?_
  refine mg_sld C hX hbl hbA G (by omega) hL dL_law_196 ?_
  refine jX_groups C G  ⟨Nat.le_of_ble_eq_true rfl, Nat.le_of_ble_eq_true rfl⟩ ⟨Nat.le_refl _, Nat.le_refl _⟩ hl.1 (Nat.le_of_ble_eq_true rfl) dL_law_197 (fun H locs G => ?_)
  refine lv_aload_n hx hb dL_law_200 rfl (lv_at hl 2 rfl) ?_
  refine lv_aload_n hx hb dL_law_201 rfl (lv_at hl 0 rfl) ?_
  refine lv_iload_n hx hb dL_law_202 rfl (lv_at hl 3 rfl) ?_
  refine lv_iconst (v := (nI 1)) hx hb dL_law_203 (by decide) ?_
  refine mg_add hx hb dL_law_204 ?_
  refine mg_sld C hX hbl hbA G (by omega) hL dL_law_205 ?_
  refine jM_groups C G  ⟨Nat.le_of_ble_eq_true rfl, Nat.le_of_ble_eq_true rfl⟩ ⟨Nat.le_refl _, Nat.le_refl _⟩ hl.1 (Nat.le_of_ble_eq_true rfl) dL_law_206 (fun H locs G => ?_)
  obtain ⟨k2, hk2, ek⟩ := mg_kf_n (xs (i + 1))
  rw [ek] at G
  refine lv_goto (tgt := 351) hx hb dL_law_209 (by decide) ?_
  exact go n k2 ax ay sx sy (mg_rs 4 mx sx) (mg_rs 4 my sy) (mg_rs 4 mc mg_o1) (mg_rs 4 mv mg_o1) (mg_rs 24 mb mg_om) qx qy qc up lo H locs ls (mg_LI_groups I hk2) G hl
set_option maxHeartbeats 4000000 in
set_option maxRecDepth 100000 in
theorem ll_reset {a b : Nat → Nat} {cI cZ : ClassId} {bs L i : Nat} {xs : AR} (C : mg_cx p s m #[Value.ref bs] meth c cL_law ret 4 R_law A) (hX : va_X bs L xs s s.heap) (hbl : bs < s.heap.size) (hbA : ¬ A bs) (hi : i + 4 ≤ L) (hL : L ≤ 256) (go : mg_GO p l e s m below meth c Q D cI cZ A a b bs i 351) : mg_GO p l e s m below meth c Q D cI cZ A a b bs i 212 := by
  obtain ⟨hx, hb, hr, hml, hown, hts, hlk, hA⟩ := id C
  intro n k ax ay sx sy mx my mc mv mb qx qy qc up lo H locs ls I G hl
  obtain ⟨hn, hk, hs, hI⟩ := id I
  refine lv_aload_n hx hb dL_law_212 rfl (lv_at hl 1 rfl) ?_
  refine jX_reset C G  ⟨Nat.le_of_ble_eq_true rfl, Nat.le_of_ble_eq_true rfl⟩ ⟨Nat.le_refl _, Nat.le_refl _⟩ hl.1 (Nat.le_of_ble_eq_true rfl) dL_law_213 (fun H locs G => ?_)
  refine lv_aload_n hx hb dL_law_216 rfl (lv_at hl 2 rfl) ?_
  refine jM_reset C G  ⟨Nat.le_of_ble_eq_true rfl, Nat.le_of_ble_eq_true rfl⟩ ⟨Nat.le_refl _, Nat.le_refl _⟩ hl.1 (Nat.le_of_ble_eq_true rfl) dL_law_217 (fun H locs G => ?_)
  refine lv_goto (tgt := 351) hx hb dL_law_220 (by decide) ?_
  exact go n k ax ay sx sy (mg_rs 4 mx sx) (mg_rs 4 my sy) (mg_rs 4 mc mg_o1) (mg_rs 4 mv mg_o1) (mg_rs 24 mb mg_om) qx qy qc up lo H locs ls (mg_LI_reset I) G hl
set_option maxHeartbeats 4000000 in
set_option maxRecDepth 100000 in
theorem ll_round {a b : Nat → Nat} {cI cZ : ClassId} {bs L i : Nat} {xs : AR} (C : mg_cx p s m #[Value.ref bs] meth c cL_law ret 4 R_law A) (hX : va_X bs L xs s s.heap) (hbl : bs < s.heap.size) (hbA : ¬ A bs) (hi : i + 4 ≤ L) (hL : L ≤ 256) (go : mg_GO p l e s m below meth c Q D cI cZ A a b bs i 351) : mg_GO p l e s m below meth c Q D cI cZ A a b bs i 223 := by
  obtain ⟨hx, hb, hr, hml, hown, hts, hlk, hA⟩ := id C
  intro n k ax ay sx sy mx my mc mv mb qx qy qc up lo H locs ls I G hl
  obtain ⟨hn, hk, hs, hI⟩ := id I
  refine lv_aload_n hx hb dL_law_223 rfl (lv_at hl 1 rfl) ?_
  refine jX_round C G hn hk hI ⟨Nat.le_of_ble_eq_true rfl, Nat.le_of_ble_eq_true rfl⟩ ⟨Nat.le_refl _, Nat.le_refl _⟩ hl.1 (Nat.le_of_ble_eq_true rfl) dL_law_224 (fun r1 u H locs hp1 G => ?_)
  refine lv_aload_n hx hb dL_law_227 rfl (lv_at hl 2 rfl) ?_
  refine jM_round C G hn hk ⟨Nat.le_of_ble_eq_true rfl, Nat.le_of_ble_eq_true rfl⟩ ⟨Nat.le_refl _, Nat.le_refl _⟩ hl.1 (Nat.le_of_ble_eq_true rfl) dL_law_228 (fun r2 H locs hp2 G => ?_)
  obtain ⟨e1, I2⟩ := hp1
  refine lv_icmp_eq (tgt := 351) hx hb dL_law_231 (by decide) (fun _ => ?_) (fun h => False.elim (h (e1.trans hp2.symm)))
  exact go n k ax ay sx sy (mg_rS ax ay k n (mb, mx, my, mc)).2.1 (mg_rS ax ay k n (mb, mx, my, mc)).2.2.1 (mg_rS ax ay k n (mb, mx, my, mc)).2.2.2 u.1 (mg_rS ax ay k n (mb, mx, my, mc)).1 u.2.1 u.2.2.1 u.2.2.2.1 u.2.2.2.2.1 u.2.2.2.2.2 H locs ls ⟨hn, hk, hs, I2⟩ G hl
set_option maxHeartbeats 4000000 in
set_option maxRecDepth 100000 in
theorem ll_settle {a b : Nat → Nat} {cI cZ : ClassId} {bs L i : Nat} {xs : AR} (C : mg_cx p s m #[Value.ref bs] meth c cL_law ret 4 R_law A) (hX : va_X bs L xs s s.heap) (hbl : bs < s.heap.size) (hbA : ¬ A bs) (hi : i + 4 ≤ L) (hL : L ≤ 256) (go : mg_GO p l e s m below meth c Q D cI cZ A a b bs i 351) : mg_GO p l e s m below meth c Q D cI cZ A a b bs i 236 := by
  obtain ⟨hx, hb, hr, hml, hown, hts, hlk, hA⟩ := id C
  intro n k ax ay sx sy mx my mc mv mb qx qy qc up lo H locs ls I G hl
  obtain ⟨hn, hk, hs, hI⟩ := id I
  refine lv_aload_n hx hb dL_law_236 rfl (lv_at hl 1 rfl) ?_
  refine jX_settle C G hn hk hI.1.1 hs ⟨Nat.le_of_ble_eq_true rfl, Nat.le_of_ble_eq_true rfl⟩ ⟨Nat.le_refl _, Nat.le_refl _⟩ hl.1 (Nat.le_of_ble_eq_true rfl) dL_law_237 (fun r1 u H locs hp1 G => ?_)
  refine lv_aload_n hx hb dL_law_240 rfl (lv_at hl 2 rfl) ?_
  refine jM_settle C G hn hk ⟨Nat.le_of_ble_eq_true rfl, Nat.le_of_ble_eq_true rfl⟩ ⟨Nat.le_refl _, Nat.le_refl _⟩ hl.1 (Nat.le_of_ble_eq_true rfl) dL_law_241 (fun r2 H locs hp2 G => ?_)
  obtain ⟨e1, I2⟩ := hp1
  refine lv_icmp_eq (tgt := 351) hx hb dL_law_244 (by decide) (fun _ => ?_) (fun h => False.elim (h (e1.trans hp2.symm)))
  exact go n k ax ay sx sy (mg_st ax ay k n 40 0 (mg_rs 24 mb mg_om, mg_rs 4 mx sx, mg_rs 4 my sy, mg_rs 4 mc mg_o1)).2.2.1 (mg_st ax ay k n 40 0 (mg_rs 24 mb mg_om, mg_rs 4 mx sx, mg_rs 4 my sy, mg_rs 4 mc mg_o1)).2.2.2.1 (mg_st ax ay k n 40 0 (mg_rs 24 mb mg_om, mg_rs 4 mx sx, mg_rs 4 my sy, mg_rs 4 mc mg_o1)).2.2.2.2 u.1 (mg_st ax ay k n 40 0 (mg_rs 24 mb mg_om, mg_rs 4 mx sx, mg_rs 4 my sy, mg_rs 4 mc mg_o1)).2.1 u.2.1 u.2.2.1 u.2.2.2.1 u.2.2.2.2.1 u.2.2.2.2.2 H locs ls ⟨hn, hk, hs, I2⟩ G hl
set_option maxHeartbeats 4000000 in
set_option maxRecDepth 100000 in
theorem ll_group {a b : Nat → Nat} {cI cZ : ClassId} {bs L i : Nat} {xs : AR} (C : mg_cx p s m #[Value.ref bs] meth c cL_law ret 4 R_law A) (hX : va_X bs L xs s s.heap) (hbl : bs < s.heap.size) (hbA : ¬ A bs) (hi : i + 4 ≤ L) (hL : L ≤ 256) (go : mg_GO p l e s m below meth c Q D cI cZ A a b bs i 351) : mg_GO p l e s m below meth c Q D cI cZ A a b bs i 249 := by
  obtain ⟨hx, hb, hr, hml, hown, hts, hlk, hA⟩ := id C
  intro n k ax ay sx sy mx my mc mv mb qx qy qc up lo H locs ls I G hl
  obtain ⟨hn, hk, hs, hI⟩ := id I
  refine lv_aload_n hx hb dL_law_249 rfl (lv_at hl 1 rfl) ?_
  refine lv_aload_n hx hb dL_law_250 rfl (lv_at hl 0 rfl) ?_
  refine lv_iload_n hx hb dL_law_251 rfl (lv_at hl 3 rfl) ?_
  refine lv_iconst (v := (nI 1)) hx hb dL_law_252 (by decide) ?_
  refine mg_add hx hb dL_law_253 ?_
  refine mg_sld C hX hbl hbA G (by omega) hL dL_law_254 ?_
  refine jX_group C G hn ⟨Nat.le_of_ble_eq_true rfl, Nat.le_of_ble_eq_true rfl⟩ ⟨Nat.le_refl _, Nat.le_refl _⟩ hl.1 (Nat.le_of_ble_eq_true rfl) dL_law_255 (fun r1 H locs hp1 G => ?_)
  refine lv_aload_n hx hb dL_law_258 rfl (lv_at hl 2 rfl) ?_
  refine lv_aload_n hx hb dL_law_259 rfl (lv_at hl 0 rfl) ?_
  refine lv_iload_n hx hb dL_law_260 rfl (lv_at hl 3 rfl) ?_
  refine lv_iconst (v := (nI 1)) hx hb dL_law_261 (by decide) ?_
  refine mg_add hx hb dL_law_262 ?_
  refine mg_sld C hX hbl hbA G (by omega) hL dL_law_263 ?_
  refine jM_group C G hn ⟨Nat.le_of_ble_eq_true rfl, Nat.le_of_ble_eq_true rfl⟩ ⟨Nat.le_refl _, Nat.le_refl _⟩ hl.1 (Nat.le_of_ble_eq_true rfl) dL_law_264 (fun r2 H locs hp2 G => ?_)
  refine lv_icmp_eq (tgt := 351) hx hb dL_law_267 (by decide) (fun _ => ?_) (fun h => False.elim (h (hp1.trans hp2.symm)))
  exact go n k ax ay sx sy mx my mc mv mb qx qy qc up lo H locs ls I G hl
set_option maxHeartbeats 4000000 in
set_option maxRecDepth 100000 in
theorem ll_size {a b : Nat → Nat} {cI cZ : ClassId} {bs L i : Nat} {xs : AR} (C : mg_cx p s m #[Value.ref bs] meth c cL_law ret 4 R_law A) (hX : va_X bs L xs s s.heap) (hbl : bs < s.heap.size) (hbA : ¬ A bs) (hi : i + 4 ≤ L) (hL : L ≤ 256) (go : mg_GO p l e s m below meth c Q D cI cZ A a b bs i 351) : mg_GO p l e s m below meth c Q D cI cZ A a b bs i 272 := by
  obtain ⟨hx, hb, hr, hml, hown, hts, hlk, hA⟩ := id C
  intro n k ax ay sx sy mx my mc mv mb qx qy qc up lo H locs ls I G hl
  obtain ⟨hn, hk, hs, hI⟩ := id I
  refine lv_aload_n hx hb dL_law_272 rfl (lv_at hl 1 rfl) ?_
  refine lv_aload_n hx hb dL_law_273 rfl (lv_at hl 0 rfl) ?_
  refine lv_iload_n hx hb dL_law_274 rfl (lv_at hl 3 rfl) ?_
  refine lv_iconst (v := (nI 1)) hx hb dL_law_275 (by decide) ?_
  refine mg_add hx hb dL_law_276 ?_
  refine mg_sld C hX hbl hbA G (by omega) hL dL_law_277 ?_
  refine jX_size C G hn ⟨Nat.le_of_ble_eq_true rfl, Nat.le_of_ble_eq_true rfl⟩ ⟨Nat.le_refl _, Nat.le_refl _⟩ hl.1 (Nat.le_of_ble_eq_true rfl) dL_law_278 (fun r1 H locs hp1 G => ?_)
  refine lv_aload_n hx hb dL_law_281 rfl (lv_at hl 2 rfl) ?_
  refine lv_aload_n hx hb dL_law_282 rfl (lv_at hl 0 rfl) ?_
  refine lv_iload_n hx hb dL_law_283 rfl (lv_at hl 3 rfl) ?_
  refine lv_iconst (v := (nI 1)) hx hb dL_law_284 (by decide) ?_
  refine mg_add hx hb dL_law_285 ?_
  refine mg_sld C hX hbl hbA G (by omega) hL dL_law_286 ?_
  refine jM_size C G hn ⟨Nat.le_of_ble_eq_true rfl, Nat.le_of_ble_eq_true rfl⟩ ⟨Nat.le_refl _, Nat.le_refl _⟩ hl.1 (Nat.le_of_ble_eq_true rfl) dL_law_287 (fun r2 H locs hp2 G => ?_)
  refine lv_icmp_eq (tgt := 351) hx hb dL_law_290 (by decide) (fun _ => ?_) (fun h => False.elim (h (hp1.trans hp2.symm)))
  exact go n k ax ay sx sy mx my mc mv mb qx qy qc up lo H locs ls I G hl
set_option maxHeartbeats 4000000 in
set_option maxRecDepth 100000 in
theorem ll_sum {a b : Nat → Nat} {cI cZ : ClassId} {bs L i : Nat} {xs : AR} (C : mg_cx p s m #[Value.ref bs] meth c cL_law ret 4 R_law A) (hX : va_X bs L xs s s.heap) (hbl : bs < s.heap.size) (hbA : ¬ A bs) (hi : i + 4 ≤ L) (hL : L ≤ 256) (go : mg_GO p l e s m below meth c Q D cI cZ A a b bs i 351) : mg_GO p l e s m below meth c Q D cI cZ A a b bs i 295 := by
  obtain ⟨hx, hb, hr, hml, hown, hts, hlk, hA⟩ := id C
  intro n k ax ay sx sy mx my mc mv mb qx qy qc up lo H locs ls I G hl
  obtain ⟨hn, hk, hs, hI⟩ := id I
  refine lv_aload_n hx hb dL_law_295 rfl (lv_at hl 1 rfl) ?_
  refine lv_aload_n hx hb dL_law_296 rfl (lv_at hl 0 rfl) ?_
  refine lv_iload_n hx hb dL_law_297 rfl (lv_at hl 3 rfl) ?_
  refine lv_iconst (v := (nI 1)) hx hb dL_law_298 (by decide) ?_
  refine mg_add hx hb dL_law_299 ?_
  refine mg_sld C hX hbl hbA G (by omega) hL dL_law_300 ?_
  refine lv_aload_n hx hb dL_law_301 rfl (lv_at hl 0 rfl) ?_
  refine lv_iload_n hx hb dL_law_302 rfl (lv_at hl 3 rfl) ?_
  refine lv_iconst (v := (nI 2)) hx hb dL_law_303 (by decide) ?_
  refine mg_add hx hb dL_law_304 ?_
  refine mg_sld C hX hbl hbA G (by omega) hL dL_law_305 ?_
  refine jX_sum C G hn ⟨Nat.le_of_ble_eq_true rfl, Nat.le_of_ble_eq_true rfl⟩ ⟨Nat.le_refl _, Nat.le_refl _⟩ hl.1 (Nat.le_of_ble_eq_true rfl) dL_law_306 (fun r1 H locs hp1 G => ?_)
  refine lv_aload_n hx hb dL_law_309 rfl (lv_at hl 2 rfl) ?_
  refine lv_aload_n hx hb dL_law_310 rfl (lv_at hl 0 rfl) ?_
  refine lv_iload_n hx hb dL_law_311 rfl (lv_at hl 3 rfl) ?_
  refine lv_iconst (v := (nI 1)) hx hb dL_law_312 (by decide) ?_
  refine mg_add hx hb dL_law_313 ?_
  refine mg_sld C hX hbl hbA G (by omega) hL dL_law_314 ?_
  refine lv_aload_n hx hb dL_law_315 rfl (lv_at hl 0 rfl) ?_
  refine lv_iload_n hx hb dL_law_316 rfl (lv_at hl 3 rfl) ?_
  refine lv_iconst (v := (nI 2)) hx hb dL_law_317 (by decide) ?_
  refine mg_add hx hb dL_law_318 ?_
  refine mg_sld C hX hbl hbA G (by omega) hL dL_law_319 ?_
  refine jM_sum C G hn ⟨Nat.le_of_ble_eq_true rfl, Nat.le_of_ble_eq_true rfl⟩ ⟨Nat.le_refl _, Nat.le_refl _⟩ hl.1 (Nat.le_of_ble_eq_true rfl) dL_law_320 (fun r2 H locs hp2 G => ?_)
  refine lv_icmp_eq (tgt := 351) hx hb dL_law_323 (by decide) (fun _ => ?_) (fun h => False.elim (h (hp1.trans hp2.symm)))
  exact go n k ax ay sx sy mx my mc mv mb qx qy qc up lo H locs ls I G hl
set_option maxHeartbeats 4000000 in
set_option maxRecDepth 100000 in
theorem ll_near {a b : Nat → Nat} {cI cZ : ClassId} {bs L i : Nat} {xs : AR} (C : mg_cx p s m #[Value.ref bs] meth c cL_law ret 4 R_law A) (hX : va_X bs L xs s s.heap) (hbl : bs < s.heap.size) (hbA : ¬ A bs) (hi : i + 4 ≤ L) (hL : L ≤ 256) (go : mg_GO p l e s m below meth c Q D cI cZ A a b bs i 351) : mg_GO p l e s m below meth c Q D cI cZ A a b bs i 328 := by
  obtain ⟨hx, hb, hr, hml, hown, hts, hlk, hA⟩ := id C
  intro n k ax ay sx sy mx my mc mv mb qx qy qc up lo H locs ls I G hl
  obtain ⟨hn, hk, hs, hI⟩ := id I
  refine lv_aload_n hx hb dL_law_328 rfl (lv_at hl 1 rfl) ?_
  refine lv_aload_n hx hb dL_law_329 rfl (lv_at hl 0 rfl) ?_
  refine lv_iload_n hx hb dL_law_330 rfl (lv_at hl 3 rfl) ?_
  refine lv_iconst (v := (nI 1)) hx hb dL_law_331 (by decide) ?_
  refine mg_add hx hb dL_law_332 ?_
  refine mg_sld C hX hbl hbA G (by omega) hL dL_law_333 ?_
  refine jX_near C G hn hk hI.1 ⟨Nat.le_of_ble_eq_true rfl, Nat.le_of_ble_eq_true rfl⟩ ⟨Nat.le_refl _, Nat.le_refl _⟩ hl.1 (Nat.le_of_ble_eq_true rfl) dL_law_334 (fun r1 u H locs hp1 G => ?_)
  refine lv_aload_n hx hb dL_law_337 rfl (lv_at hl 2 rfl) ?_
  refine lv_aload_n hx hb dL_law_338 rfl (lv_at hl 0 rfl) ?_
  refine lv_iload_n hx hb dL_law_339 rfl (lv_at hl 3 rfl) ?_
  refine lv_iconst (v := (nI 1)) hx hb dL_law_340 (by decide) ?_
  refine mg_add hx hb dL_law_341 ?_
  refine mg_sld C hX hbl hbA G (by omega) hL dL_law_342 ?_
  refine jM_near C G hn hk ⟨Nat.le_of_ble_eq_true rfl, Nat.le_of_ble_eq_true rfl⟩ ⟨Nat.le_refl _, Nat.le_refl _⟩ hl.1 (Nat.le_of_ble_eq_true rfl) dL_law_343 (fun r2 H locs hp2 G => ?_)
  refine lv_icmp_eq (tgt := 351) hx hb dL_law_346 (by decide) (fun _ => ?_) (fun h => False.elim (h (hp1.trans hp2.symm)))
  exact go n k ax ay sx sy mx my mc mv mb qx qy qc u.1 u.2 H locs ls I G hl
end GC
end
section
section GW
variable {p : Program} {l : Launch} {e : Env} {R : Room} {s : State} {m : MethodId} {args : Array Value} {below : List Frame} {meth : Method} {c : Code} {H : Heap} {locs : List Loc} {cells slots : Nat} {Q : State → Prop}
variable {cc : ByteArray} {ret : Option FieldType} {nL : Nat} {own : String} {A : Nat → Prop} {D : va_G} {pc : Nat} {ls : Array Slot} {rest : List Value}

theorem mg_inc4 (a : Nat) : nI a + Int32.ofInt 4 = nI (a + 4) := nI_add a 4
set_option maxHeartbeats 4000000 in
set_option maxRecDepth 100000 in
/-- the law's loop -/
theorem ll_loop {a b : Nat → Nat} {cI cZ : ClassId} {bs L : Nat} {xs : AR} (C : mg_cx p s m #[Value.ref bs] meth c cL_law ret 4 R_law A) (hX : va_X bs L xs s s.heap) (hbl : bs < s.heap.size) (hbA : ¬ A bs) (hL : L ≤ 256) (go : ∀ i, mg_GO p l e s m below meth c Q D cI cZ A a b bs i 357) : ∀ (f i : Nat), i ≤ L → L < i + f → mg_GO p l e s m below meth c Q D cI cZ A a b bs i 18 := by
  obtain ⟨hx, hb, hr, hml, hown, hts, hlk, hA⟩ := id C
  intro f
  induction f with
  | zero => intro i h1 h2; exact absurd h2 (by omega)
  | succ f ih =>
    intro i hiL hf n k ax ay sx sy mx my mc mv mb qx qy qc up lo H locs ls I G hl
    refine lv_iload_n hx hb dL_law_18 rfl (lv_at hl 3 rfl) ?_
    refine lv_aload_n hx hb dL_law_19 rfl (lv_at hl 0 rfl) ?_
    refine va_slen hx hb hX hbl hbA G.2.2.2 dL_law_20 ?_
    refine lv_iconst (v := (nI 4)) hx hb dL_law_21 (by decide) ?_
    refine lv_isub hx hb dL_law_22 ?_
    have eL : (Int32.ofNat L - nI 4).toInt = (L : Int) - 4 := pk_sub_toInt (a := L) (b := 4) (by omega) (by decide)
    have ei : (nI i).toInt = (i : Int) := nI_toInt (by omega)
    refine lv_icmp_gt (tgt := 357) hx hb dL_law_23 (by decide) (fun h => ?_) (fun h => ?_)
    · exact go i n k ax ay sx sy mx my mc mv mb qx qy qc up lo H locs ls I G hl
    have hi : i + 4 ≤ L := by rw [Int32.lt_iff_toInt_lt, eL, ei] at h; omega
    have nx : mg_GO p l e s m below meth c Q D cI cZ A a b bs i 351 := by
      intro n k ax ay sx sy mx my mc mv mb qx qy qc up lo H locs ls I G hl
      refine lv_iinc (lv' := [(3, _), (0, _), (1, _), (2, _)]) hx hb dL_law_351 hl (k := 3) rfl (mg_inc4 i) (by decide) rfl (fun ls hl => ?_)
      refine lv_goto (tgt := 18) hx hb dL_law_354 (by decide) ?_
      exact ih (i + 4) (by omega) (by omega) n k ax ay sx sy mx my mc mv mb qx qy qc up lo H locs ls I G (lv_sub hl [1, 2, 3, 0] rfl)
    refine lv_aload_n hx hb dL_law_26 rfl (lv_at hl 0 rfl) ?_
    refine lv_iload_n hx hb dL_law_27 rfl (lv_at hl 3 rfl) ?_
    refine mg_sld C hX hbl hbA G (by omega) hL dL_law_28 ?_
    refine lv_bipush (v := nI 15) hx hb dL_law_29 (by decide) ?_
    refine lv_iand hx hb dL_law_31 ?_
    obtain ⟨j, hj, ej⟩ := pk_andE (xs i) (m := nI 15) 4 (by decide)
    refine lv_topi (fun z ez => ?_)
    rw [ej] at ez
    subst ez
    have hc : j = 0 ∨ j = 1 ∨ j = 2 ∨ j = 3 ∨ j = 4 ∨ j = 5 ∨ j = 6 ∨ j = 7 ∨ j = 8 ∨ j = 9 ∨ j = 10 ∨ 11 ≤ j := by omega
    rcases hc with rfl | rfl | rfl | rfl | rfl | rfl | rfl | rfl | rfl | rfl | rfl | hj2
    · refine lv_tableIn (off := 60) (tgt := 92) hx hb dL_law_32 (by decide) (by decide) (by decide) (by decide) ?_
      exact ll_add C hX hbl hbA hi hL nx n k ax ay sx sy mx my mc mv mb qx qy qc up lo H locs ls I G hl
    · refine lv_tableIn (off := 93) (tgt := 125) hx hb dL_law_32 (by decide) (by decide) (by decide) (by decide) ?_
      exact ll_drop C hX hbl hbA hi hL nx n k ax ay sx sy mx my mc mv mb qx qy qc up lo H locs ls I G hl
    · refine lv_tableIn (off := 116) (tgt := 148) hx hb dL_law_32 (by decide) (by decide) (by decide) (by decide) ?_
      exact ll_seed C hX hbl hbA hi hL nx n k ax ay sx sy mx my mc mv mb qx qy qc up lo H locs ls I G hl
    · refine lv_tableIn (off := 159) (tgt := 191) hx hb dL_law_32 (by decide) (by decide) (by decide) (by decide) ?_
      exact ll_groups C hX hbl hbA hi hL nx n k ax ay sx sy mx my mc mv mb qx qy qc up lo H locs ls I G hl
    · refine lv_tableIn (off := 180) (tgt := 212) hx hb dL_law_32 (by decide) (by decide) (by decide) (by decide) ?_
      exact ll_reset C hX hbl hbA hi hL nx n k ax ay sx sy mx my mc mv mb qx qy qc up lo H locs ls I G hl
    · refine lv_tableIn (off := 191) (tgt := 223) hx hb dL_law_32 (by decide) (by decide) (by decide) (by decide) ?_
      exact ll_round C hX hbl hbA hi hL nx n k ax ay sx sy mx my mc mv mb qx qy qc up lo H locs ls I G hl
    · refine lv_tableIn (off := 204) (tgt := 236) hx hb dL_law_32 (by decide) (by decide) (by decide) (by decide) ?_
      exact ll_settle C hX hbl hbA hi hL nx n k ax ay sx sy mx my mc mv mb qx qy qc up lo H locs ls I G hl
    · refine lv_tableIn (off := 217) (tgt := 249) hx hb dL_law_32 (by decide) (by decide) (by decide) (by decide) ?_
      exact ll_group C hX hbl hbA hi hL nx n k ax ay sx sy mx my mc mv mb qx qy qc up lo H locs ls I G hl
    · refine lv_tableIn (off := 240) (tgt := 272) hx hb dL_law_32 (by decide) (by decide) (by decide) (by decide) ?_
      exact ll_size C hX hbl hbA hi hL nx n k ax ay sx sy mx my mc mv mb qx qy qc up lo H locs ls I G hl
    · refine lv_tableIn (off := 263) (tgt := 295) hx hb dL_law_32 (by decide) (by decide) (by decide) (by decide) ?_
      exact ll_sum C hX hbl hbA hi hL nx n k ax ay sx sy mx my mc mv mb qx qy qc up lo H locs ls I G hl
    · refine lv_tableIn (off := 296) (tgt := 328) hx hb dL_law_32 (by decide) (by decide) (by decide) (by decide) ?_
      exact ll_near C hX hbl hbA hi hL nx n k ax ay sx sy mx my mc mv mb qx qy qc up lo H locs ls I G hl
    · refine lv_tableOut (tgt := 351) hx hb dL_law_32 (Or.inr (by rw [nI_toInt (by omega)]; omega)) (by decide) ?_
      exact nx n k ax ay sx sy mx my mc mv mb qx qy qc up lo H locs ls I G hl
end GW
end
section
set_option maxHeartbeats 4000000 in
set_option maxRecDepth 100000 in
/-- YOUR PART: from the entry, for every script of at most 256 ints, the law comes to its end with true -/
theorem whole_start {p : Program} {e : Env} {s : State} {m : MethodId} {below : List Frame} {meth : Method} {c : Code} (l : Launch) {b L : Nat} {xs : Nat → Int32} (hL : L ≤ 256) (C0 : lw_At p s m meth c b L xs) : W p l e room_1 s m #[Value.ref b] below meth c s.heap [] 0 0 (lw_Z below #[Value.ref b] s) (entryFrame m ([Value.ref b] : List Value).toArray 4) := by
  obtain ⟨hx, hb, hr, hml, hown, hts0, hX, hbl, hlk, hgv⟩ := id C0
  have hts : ∀ w ∈ lw_all, w.before #[Value.ref b] s = true := fun w h => hts0 w (lw_all_tbl h)
  have hA : ∀ q : Nat, s.heap.size ≤ q → (fun q : Nat => s.heap.size ≤ q) q := fun _ h => h
  have hbA : ¬ (fun q : Nat => s.heap.size ≤ q) b := Nat.not_le.mpr hbl
  have C : mg_cx p s m #[Value.ref b] meth c cL_law ret 4 R_law (fun q : Nat => s.heap.size ≤ q) := ⟨hx, hb, hr, hml, hown, hts, hlk, hA⟩
  obtain ⟨c0, iS0, hKn0⟩ := u_known (C := RX0) (T := TX0) (N := 16) (n := 16) hts in_X0 (hts _ q13)
  obtain ⟨c1, iS1, hKn1⟩ := u_known (C := RX1) (T := TX1) (N := 10) (n := 10) hts in_X1 (hts _ q146)
  obtain ⟨dC, dI, hKc⟩ : ∃ (dC : Nat → ClassId) (dI : Nat → Nat → Nat), ∀ (k : Nat) (q : vw_C), vwCl[k]? = some q → u_Kn s q.1 q.2.1 q.2.2 (dC k) (dI k) := by
    refine ⟨fun k => if k = 0 then c0 else c1, fun k => if k = 0 then iS0 else iS1, ?_⟩
    intro k q hq
    match k, hq with
    | 0, hq => cases hq; exact hKn0
    | 1, hq => cases hq; exact hKn1
    | k + 2, hq => simp [vwCl] at hq
  obtain ⟨cI, kI, compI, f1, f2, f3⟩ := Cond.arrayClass_spec (hts _ q73)
  obtain ⟨cZ, kZ, compZ, g1, g2, g3⟩ := Cond.arrayClass_spec (hts _ q74)
  have hK : va_K (dC, dI) vwCl (mg_ty cI cZ) s := by
    refine ⟨hKc, fun k q h => ?_⟩
    match k, h with
    | 0, h => cases h; exact ⟨fun n z => ⟨fun k h => (by cases h), kI, f2, compI, f3⟩, f1⟩
    | 1, h => cases h; exact ⟨fun n z => ⟨fun k h => (by cases h), kZ, g2, compZ, g3⟩, g1⟩
    | k + 2, h => simp at h
  have hS : va_S (fun q : Nat => s.heap.size ≤ q) s.heap s.heap [] := va_S.rf
  have hP : va_P (dC, dI) vwCl [] s.heap := fun k q h => by simp at h
  have hD : va_D (fun q : Nat => s.heap.size ≤ q) [] := ⟨fun i j p q h => by simp at h, fun k q h => by simp at h⟩
  have hl := lv_entry ([.ref b]) (n := 4) (Nat.le_of_ble_eq_true rfl)
  rw [lg_entry_eq]
  generalize (lg_sl ([.ref b]) ++ List.replicate (4 - (lg_sl ([.ref b])).length) Slot.unset).toArray = ls at hl ⊢
  have hl : lv_has ls 4 [(0, .ref b)] := hl
  refine va_new (ci := 0) (fs := [.int 0, .null, .null, .int 0, .null, .null, .null, .null, .null, .null, .null, .null, .null, .null, .long 0, .long 0]) (C := RX0) (T := TX0) (N := 16) hx hb hts in_X0 tyX0 tyX0_ok hown (hts _ q12) (hts _ q13) (hts _ q10) hK hP hD hS hA rfl (fun j hj => by rcases (show j = 0 ∨ j = 1 ∨ j = 2 ∨ j = 3 ∨ j = 4 ∨ j = 5 ∨ j = 6 ∨ j = 7 ∨ j = 8 ∨ j = 9 ∨ j = 10 ∨ j = 11 ∨ j = 12 ∨ j = 13 ∨ j = 14 ∨ j = 15 by omega) with rfl | rfl | rfl | rfl | rfl | rfl | rfl | rfl | rfl | rfl | rfl | rfl | rfl | rfl | rfl | rfl <;> rfl) (Nat.le_of_ble_eq_true rfl) (Nat.le_of_ble_eq_true rfl) dL_law_0 (fun x0 H hP hD hS => ?_)
  have G : mg_wd (dC, dI) (mg_ty cI cZ) (fun q : Nat => s.heap.size ≤ q) s [(x0, .inr (0, [.int 0, .null, .null, .int 0, .null, .null, .null, .null, .null, .null, .null, .null, .null, .null, .long 0, .long 0]))] H [] := ⟨hK, hP, hD, hS⟩
  refine W.widen (k := 1) (n := 16) (by decide) (by decide) ?_
  refine lv_dup hx hb dL_law_3 rfl ?_
  refine mg_cv (mg_runI (As := []) C G (kX_init l (dC, dI) cI cZ x0 H.size) (cwI 0 hts (lw_meth q16) rfl rfl rfl (hts _ q10) (hts _ q14) (hts _ q15) rfl (by decide +kernel) ⟨Nat.le_of_ble_eq_true rfl, Nat.le_of_ble_eq_true rfl⟩) rfl hl.1 rfl (Nat.le_of_ble_eq_true rfl) dL_law_4 ⟨Nat.le_of_ble_eq_true rfl, Nat.le_of_ble_eq_true rfl⟩) G.2.2.2 (mg_free C G) (fun a H1 locs1 ha B => ?_)
  have G1 := mg_whole C G B
  subst ha
  clear G
  refine W.widen (k := 13) (n := 124) (by decide) (by decide) ?_
  refine lv_astore_n (lv' := [(1, .ref (a 0)), (0, .ref b)]) hx hb dL_law_7 rfl hl (by decide) rfl (fun ls hl => ?_)
  clear hK hP hD hS
  obtain ⟨hK, hP, hD, hS⟩ := G1
  refine va_new (ci := 1) (fs := [.int 0, .null, .null, .null, .int 0, .null, .null, .null, .null, .null]) (C := RX1) (T := TX1) (N := 10) hx hb hts in_X1 tyX1 tyX1_ok hown (hts _ q145) (hts _ q146) (hts _ q11) hK hP hD hS hA rfl (fun j hj => by rcases (show j = 0 ∨ j = 1 ∨ j = 2 ∨ j = 3 ∨ j = 4 ∨ j = 5 ∨ j = 6 ∨ j = 7 ∨ j = 8 ∨ j = 9 by omega) with rfl | rfl | rfl | rfl | rfl | rfl | rfl | rfl | rfl | rfl <;> rfl) (Nat.le_of_ble_eq_true rfl) (Nat.le_of_ble_eq_true rfl) dL_law_8 (fun m0 H hP hD hS => ?_)
  have G := (⟨hK, hP, hD, hS⟩ : mg_wd (dC, dI) (mg_ty cI cZ) (fun q : Nat => s.heap.size ≤ q) s (_ ++ [(m0, .inr (1, [.int 0, .null, .null, .null, .int 0, .null, .null, .null, .null, .null]))]) H locs1)
  refine W.widen (k := 14) (n := 134) (by decide) (by decide) ?_
  refine lv_dup hx hb dL_law_11 rfl ?_
  refine mg_cv (mg_runI (As := []) C (mg_cut2 G) (kM_init l (dC, dI) cI cZ m0 H.size) (cwI 0 hts (lw_meth q149) rfl rfl rfl (hts _ q11) (hts _ q147) (hts _ q148) rfl (by decide +kernel) ⟨Nat.le_of_ble_eq_true rfl, Nat.le_of_ble_eq_true rfl⟩) rfl hl.1 rfl (Nat.le_of_ble_eq_true rfl) dL_law_12 ⟨Nat.le_of_ble_eq_true rfl, Nat.le_of_ble_eq_true rfl⟩) G.2.2.2 (mg_free C (mg_cut2 G)) (fun bb H1 locs1 hb2 B => ?_)
  have G2 := mg_right C G B
  subst hb2
  clear G
  refine W.widen (k := 600000) (n := 7290000) (by decide) (by decide) ?_
  refine lv_astore_n (lv' := [(2, .ref (bb 0)), (1, .ref (a 0)), (0, .ref b)]) hx hb dL_law_15 rfl hl (by decide) rfl (fun ls hl => ?_)
  refine lv_iconst (v := nI 0) hx hb dL_law_16 (by decide) ?_
  refine lv_istore_n (lv' := [(3, .int (nI 0)), (2, .ref (bb 0)), (1, .ref (a 0)), (0, .ref b)]) hx hb dL_law_17 rfl hl (by decide) rfl (fun ls hl => ?_)
  have I0 : mg_LI 0 2 mg_z mg_z mg_z mg_z (mg_rs 4 mg_z mg_z) (mg_rs 4 mg_z mg_z) (mg_rs 4 mg_z mg_o1) (mg_rs 24 mg_z mg_om) (mg_rs 4 mg_z mg_o1) := by
    have hs : ∀ g, g < 4 → (-50 ≤ (mg_z g).toInt ∧ (mg_z g).toInt ≤ 50) ∧ (-50 ≤ (mg_z g).toInt ∧ (mg_z g).toInt ≤ 50) := fun g _ => ⟨by show -50 ≤ (0 : Int32).toInt ∧ (0 : Int32).toInt ≤ 50; decide, by show -50 ≤ (0 : Int32).toInt ∧ (0 : Int32).toInt ≤ 50; decide⟩
    exact ⟨by decide, by decide, hs, mg_rs_iv (by decide) (fun p hp => absurd hp (by omega)) hs⟩
  refine ll_loop C hX hbl hbA hL (fun i n k ax ay sx sy mx my mc mv mb qx qy qc up lo H locs ls I G hl => ?_) (L + 1) 0 (by omega) (by omega) 0 2 mg_z mg_z mg_z mg_z (mg_rs 4 mg_z mg_z) (mg_rs 4 mg_z mg_z) (mg_rs 4 mg_z mg_o1) (mg_rs 4 mg_z mg_o1) (mg_rs 24 mg_z mg_om) mg_z mg_z mg_z 0 0 _ _ ls I0 G2 (lv_sub hl [3, 2, 1, 0] rfl)
  refine lv_iconst (v := 1) hx hb dL_law_357 (by decide) ?_
  refine va_forget (fun q hq => G.2.2.2.2.2 q hq) ?_
  exact lw_ret hx hb hr hlk dL_law_358
set_option maxHeartbeats 4000000 in
theorem lw_walk (l : Launch) (b : Addr) (xs : List Int32) : MetFree l x (headSpec (Jvm.Cond.code x code maxLocals ret :: tables_1) room_1) (lw_P b xs) (fun _ _ _ _ _ => True) lw_Q := by
  refine MetFree.of_bodyS (code := code) (maxLocals := maxLocals) (ret := ret) (by decide) ?_ ?_
  · intro args s m h hn
    obtain ⟨meth, c, h1, h2, h3, h4, h5, h6, -, -⟩ := Cond.code_spec hn (atoms_spec (ws := Jvm.Cond.code x code maxLocals ret :: tables_1) h _ List.mem_cons_self)
    exact ⟨meth, c, h1, h2, h3, h4, h5, h6⟩
  · intro p e s m args below meth c s₁ B hml0 hP _
    obtain ⟨rfl, hx, hbd, hgv⟩ := hP
    obtain ⟨scr, harrAt, hlist, hof, hsmall⟩ := hx
    obtain ⟨hcb, hkn, -, -⟩ := State.arrayAt?_spec harrAt
    have hown : s.vm.findClass R_law = some m.cls := findClass_of_methodNamed B.named
    have hts0 : ∀ c ∈ (Jvm.Cond.code x code maxLocals ret :: tables_1), c.before #[Value.ref b] s = true := atoms_spec (ws := Jvm.Cond.code x code maxLocals ret :: tables_1) B.pre
    have hts : ∀ w ∈ lw_tbl, w.before #[Value.ref b] s = true := k2_hts_sels lw_privs (fun w hw => hts0 w (List.mem_cons_of_mem _ hw)) lw_privs_ok
    have hml : c.maxLocals = 4 := B.maxLocals_eq (hts0 _ List.mem_cons_self)
    have X₀ : Stand p l e room_1 s m #[Value.ref b] below meth c s₁ [] 0 0 := Stand.of_body B
    have hh0 : s₁.heap = s.heap := by rw [B.state]; rfl
    have hsz : scr.slots.size = xs.length := by rw [← Array.length_toList, hlist, List.length_map]
    have hval : ∀ j : Nat, j < xs.length → scr.slots[j]? = some (.int (xs.getD j 0)) := fun j hj => by
      rw [← Array.getElem?_toList, hlist]
      simp [hj]
    have hbl : b < s.heap.size := (Array.getElem?_eq_some_iff.mp hcb).1
    have hX : va_X b xs.length (fun j => xs.getD j 0) s s.heap := ⟨scr, hcb, hof, hkn, hsz, hval⟩
    have K : W p l e room_1 s m #[Value.ref b] below meth c s₁.heap [] 0 0 (lw_Z below #[Value.ref b] s) (entryFrame m ([Value.ref b] : List Value).toArray 4) := by
      rw [hh0]
      exact whole_start l hbd ⟨B.exec, B.bytes, B.returns, hml, hown, hts, hX, hbl, B.notSynchronized, hgv⟩
    obtain ⟨t, a1, o, b1, b2, b3⟩ := K s₁ rfl X₀
    exact ⟨t, o, a1, b1, b2, b3⟩
theorem lw_pre_spec {args : Array Value} {s : State} (h : (Jvm.Cond.and given_1 narrow_1).before args s = true) (hr : rest_1_c.before args s = true) : ∃ (b : Addr) (xs : List Int32), lw_P b xs args s := by
  have hs := flat_of_before _ h
  have hq := flat_of_before _ hr
  have hc : (Cond.count 1).before args s = true := hs _ (by decide +kernel)
  have harr : (Cond.arrayOf (.arg 0) .int).before args s = true := hs _ (by decide +kernel)
  have hle : (Cond.le (.length (.arg 0)) (.int 256)).before args s = true := hs _ (by decide +kernel)
  have hlen : (Cond.isInt (.length (.arg 0))).before args s = true := hq _ (by decide +kernel)
  have hall : (Cond.all (.arg 0) (.isInt (.elem (.arg 0) (.index 0)))).before args s = true := hq _ (by decide +kernel)
  obtain ⟨b, xs, hb, hx⟩ := State.ints_of_pre rfl harr hlen hall
  have hsm : xs.length < 2 ^ 31 := hx.choose_spec.2.2.2
  have hev : (Term.length (.arg 0)).eval args s none [] s = some (.int xs.length.toInt32) := hx.length_eval hb
  have hv := Cond.le_ints hev (show (Term.int 256).eval args s none [] s = some (.int 256) from rfl)
  have hd : xs.length.toInt32 ≤ 256 := by
    simpa [Cond.before, Cond.holds, hv] using hle
  have hN : xs.length ≤ 256 := (Int32.ofNat_le_ofNat hsm (by decide)).mp (show Int32.ofNat xs.length ≤ Int32.ofNat 256 from hd)
  exact ⟨b, xs, Cond.one_arg hc (show args[0]? = some (.ref b) from hb), hx, hN, h⟩
theorem lw_comes (l : Launch) : Comes l x (Jvm.Cond.code x code maxLocals ret :: tables_1) room_1 (fun tb e args s => Calls_1 tb e args s ∧ rest_1 tb e args s ∧ Pre_1 tb e args s)
    (fun _ _ args s o t => lw_Q args s o t) := by
  intro p e ha hc hk s m args below hf hfit hheap happ hpre
  obtain ⟨b, xs, hP⟩ := lw_pre_spec hpre.2.2 hpre.2.1
  obtain ⟨k, o, h1, h2, h3, hQ⟩ := lw_walk l b xs p e ha hc hk s m args below hf ((Spec.applies_iff_loose hf).mp happ).1 hP trivial
  exact ⟨k, o, h1, h2, h3, hQ⟩
theorem lw_frame {s t : State} {o : Outcome} {args : Array Value} (h : Framed s o t [] 600000 7290000) :
    Framed s o t (fieldLocs frame_1_writes args s ++ arrayLocs frame_1_arrays args s ++ staticLocs frame_1_statics s) 600000 7290000 := h
theorem lw_limb (L : Cond) (hL : ∀ (args : Array Value) (s t : State), L.after args s (.returned (some (.int 1))) t = true) :
    ArmFor flags0 classFile x code maxLocals ret World_1 tables_1 room_1 Calls_1 rest_1 Pre_1
      (fun tb e a s o t => postC L tb e a s o t ∧ Framed s o t (fieldLocs frame_1_writes a s ++ arrayLocs frame_1_arrays a s ++ staticLocs frame_1_statics s) 600000 7290000) := by
  intro l _ _ _ p e ha hc hk s m args below hf hfit hheap happ hpre
  obtain ⟨k, o, h1, h2, h3, rfl, hF⟩ := lw_comes l p e ha hc hk s m args below hf hfit hheap happ hpre
  exact ⟨k, _, h1, h2, h3, hL args s _, lw_frame hF⟩
theorem i_vc : Claimed_1_1 ∧ Claimed_1_2 := ⟨lw_limb limb_1_1 (fun args s t => by simp [limb_1_1, Cond.after, Cond.holds, Cond.value]), lw_limb limb_1_2 (fun args s t => Cond.after_iff.mpr (by
  first | (rw [show limb_1_2 = Cond.eq .result (.int 1) from rfl, Cond.eq_ints (x := 1) (y := 1) rfl rfl]; simp; done) | (simp [limb_1_2, Cond.value, Term.eval]; done)))⟩
end
